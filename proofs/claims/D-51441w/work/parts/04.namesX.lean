/-! RoseProverbs -/
set_option maxRecDepth 100000
def RX1 : String := "RoseProverbs"
def TX1 : u_T := fun k => match k with
  | 0 => ("RoseProverbs", "input", "[B", true)
  | 1 => ("RoseProverbs", "inputLength", "I", false)
  | 2 => ("RoseProverbs", "errorCode", "I", false)
  | 3 => ("RoseProverbs", "errorOffset", "I", false)
  | 4 => ("RoseProverbs", "now", "LRoseProverbs$Rose;", false)
  | 5 => ("RoseProverbs", "saved", "LRoseProverbs$Rose;", false)
  | 6 => ("RoseProverbs", "thought", "LRoseProverbs$Rose;", false)
  | 7 => ("RoseProverbs", "history", "Ljava/util/ArrayDeque;", true)
  | _ => ("RoseProverbs", "output", "Ljava/lang/StringBuilder;", true)
def tyX1 : Nat → FieldType := fun k => match k with
  | 0 => .array .byte
  | 1 => .int
  | 2 => .int
  | 3 => .int
  | 4 => .object "RoseProverbs$Rose"
  | 5 => .object "RoseProverbs$Rose"
  | 6 => .object "RoseProverbs$Rose"
  | 7 => .object "java/util/ArrayDeque"
  | _ => .object "java/lang/StringBuilder"
abbrev wsX10 : List Cond := u_ws RX1 TX1 9
theorem nmX1 : ∀ a, a < 9 → ∀ b, b < 9 → a ≠ b → (TX1 a).2.1 ≠ (TX1 b).2.1 := by decide +kernel
theorem tyX1_ok : ∀ k, k < 9 → parseFieldDescriptor (TX1 k).2.2.1 = some (tyX1 k) := by decide +kernel
abbrev cX1_init : ByteArray := prog_1_method_11_code
def yX1_init : MethodName := ⟨RX1, "<init>", "()V"⟩
def dkwX1_init_2 : List UInt8 := [181, 0, 85, 42, 187, 0, 89, 89, 183, 0, 91, 181, 0, 92, 177]
abbrev dktX1_init_2 : List UInt8 := dkwX1_init_2 ++ []
def dkwX1_init_1 : List UInt8 := [181, 0, 72, 42, 42, 180, 0, 72, 182, 0, 76, 181, 0, 79, 42, 187, 0, 82, 89, 183, 0, 84]
abbrev dktX1_init_1 : List UInt8 := dkwX1_init_1 ++ dktX1_init_2
def dkwX1_init_0 : List UInt8 := [42, 183, 0, 57, 42, 17, 2, 188, 188, 8, 181, 0, 60, 42, 2, 181, 0, 64, 42, 184, 0, 68]
abbrev dktX1_init_0 : List UInt8 := dkwX1_init_0 ++ dktX1_init_1
theorem dksX1_init_0 : cX1_init.data.toList.drop 0 = dktX1_init_0 := by decide +kernel
theorem dksX1_init_1 : cX1_init.data.toList.drop 22 = dktX1_init_1 := dk_seg dksX1_init_0 22 rfl rfl
theorem dksX1_init_2 : cX1_init.data.toList.drop 44 = dktX1_init_2 := dk_seg dksX1_init_1 22 rfl rfl
theorem dX1_init_0 : decode cX1_init 0 = .ok (.aload_n 0, 1) := dk_42 (dk_at dksX1_init_0 0 rfl rfl)
theorem dX1_init_1 : decode cX1_init 1 = .ok (.invokespecial 57, 3) := dk_183 0 57 (dk_at dksX1_init_0 1 rfl rfl)
theorem dX1_init_4 : decode cX1_init 4 = .ok (.aload_n 0, 1) := dk_42 (dk_at dksX1_init_0 4 rfl rfl)
theorem dX1_init_5 : decode cX1_init 5 = .ok (.sipush 700, 3) := dk_17 2 188 (dk_at dksX1_init_0 5 rfl rfl)
theorem dX1_init_8 : decode cX1_init 8 = .ok (.newarray .byte, 2) := dk_188_8 (dk_at dksX1_init_0 8 rfl rfl)
theorem dX1_init_10 : decode cX1_init 10 = .ok (.putfield 60, 3) := dk_181 0 60 (dk_at dksX1_init_0 10 rfl rfl)
theorem dX1_init_13 : decode cX1_init 13 = .ok (.aload_n 0, 1) := dk_42 (dk_at dksX1_init_0 13 rfl rfl)
theorem dX1_init_14 : decode cX1_init 14 = .ok (.iconst (-1), 1) := dk_2 (dk_at dksX1_init_0 14 rfl rfl)
theorem dX1_init_15 : decode cX1_init 15 = .ok (.putfield 64, 3) := dk_181 0 64 (dk_at dksX1_init_0 15 rfl rfl)
theorem dX1_init_18 : decode cX1_init 18 = .ok (.aload_n 0, 1) := dk_42 (dk_at dksX1_init_0 18 rfl rfl)
theorem dX1_init_19 : decode cX1_init 19 = .ok (.invokestatic 68, 3) := dk_184 0 68 (dk_at dksX1_init_0 19 rfl rfl)
theorem dX1_init_22 : decode cX1_init 22 = .ok (.putfield 72, 3) := dk_181 0 72 (dk_at dksX1_init_1 0 rfl rfl)
theorem dX1_init_25 : decode cX1_init 25 = .ok (.aload_n 0, 1) := dk_42 (dk_at dksX1_init_1 3 rfl rfl)
theorem dX1_init_26 : decode cX1_init 26 = .ok (.aload_n 0, 1) := dk_42 (dk_at dksX1_init_1 4 rfl rfl)
theorem dX1_init_27 : decode cX1_init 27 = .ok (.getfield 72, 3) := dk_180 0 72 (dk_at dksX1_init_1 5 rfl rfl)
theorem dX1_init_30 : decode cX1_init 30 = .ok (.invokevirtual 76, 3) := dk_182 0 76 (dk_at dksX1_init_1 8 rfl rfl)
theorem dX1_init_33 : decode cX1_init 33 = .ok (.putfield 79, 3) := dk_181 0 79 (dk_at dksX1_init_1 11 rfl rfl)
theorem dX1_init_36 : decode cX1_init 36 = .ok (.aload_n 0, 1) := dk_42 (dk_at dksX1_init_1 14 rfl rfl)
theorem dX1_init_37 : decode cX1_init 37 = .ok (.new 82, 3) := dk_187 0 82 (dk_at dksX1_init_1 15 rfl rfl)
theorem dX1_init_40 : decode cX1_init 40 = .ok (.dup, 1) := dk_89 (dk_at dksX1_init_1 18 rfl rfl)
theorem dX1_init_41 : decode cX1_init 41 = .ok (.invokespecial 84, 3) := dk_183 0 84 (dk_at dksX1_init_1 19 rfl rfl)
theorem dX1_init_44 : decode cX1_init 44 = .ok (.putfield 85, 3) := dk_181 0 85 (dk_at dksX1_init_2 0 rfl rfl)
theorem dX1_init_47 : decode cX1_init 47 = .ok (.aload_n 0, 1) := dk_42 (dk_at dksX1_init_2 3 rfl rfl)
theorem dX1_init_48 : decode cX1_init 48 = .ok (.new 89, 3) := dk_187 0 89 (dk_at dksX1_init_2 4 rfl rfl)
theorem dX1_init_51 : decode cX1_init 51 = .ok (.dup, 1) := dk_89 (dk_at dksX1_init_2 7 rfl rfl)
theorem dX1_init_52 : decode cX1_init 52 = .ok (.invokespecial 91, 3) := dk_183 0 91 (dk_at dksX1_init_2 8 rfl rfl)
theorem dX1_init_55 : decode cX1_init 55 = .ok (.putfield 92, 3) := dk_181 0 92 (dk_at dksX1_init_2 11 rfl rfl)
theorem dX1_init_58 : decode cX1_init 58 = .ok (.return_, 1) := dk_177 (dk_at dksX1_init_2 14 rfl rfl)
abbrev cX1_first : ByteArray := prog_1_method_12_code
def yX1_first : MethodName := ⟨RX1, "first", "()LRoseProverbs$Rose;"⟩
def dkwX1_first_7 : List UInt8 := [58, 5, 42, 25, 5, 182, 0, 38, 54, 6, 132, 4, 1, 167, 255, 233, 42, 176]
abbrev dktX1_first_7 : List UInt8 := dkwX1_first_7 ++ []
def dkwX1_first_6 : List UInt8 := [17, 1, 44, 79, 83, 76, 43, 77, 44, 190, 62, 3, 54, 4, 21, 4, 29, 162, 0, 23, 44, 21, 4, 50]
abbrev dktX1_first_6 : List UInt8 := dkwX1_first_6 ++ dktX1_first_7
def dkwX1_first_5 : List UInt8 := [3, 16, 10, 79, 89, 4, 16, 10, 79, 89, 5, 3, 79, 89, 6, 16, 11, 79, 89, 7, 6, 79, 89, 8]
abbrev dktX1_first_5 : List UInt8 := dkwX1_first_5 ++ dktX1_first_6
def dkwX1_first_4 : List UInt8 := [5, 79, 89, 6, 16, 9, 79, 89, 7, 4, 79, 89, 8, 16, 80, 79, 83, 89, 6, 16, 6, 188, 10, 89]
abbrev dktX1_first_4 : List UInt8 := dkwX1_first_4 ++ dktX1_first_5
def dkwX1_first_3 : List UInt8 := [89, 8, 16, 120, 79, 83, 89, 5, 16, 6, 188, 10, 89, 3, 16, 8, 79, 89, 4, 16, 12, 79, 89, 5]
abbrev dktX1_first_3 : List UInt8 := dkwX1_first_3 ++ dktX1_first_4
def dkwX1_first_2 : List UInt8 := [16, 6, 188, 10, 89, 3, 3, 79, 89, 4, 7, 79, 89, 5, 3, 79, 89, 6, 4, 79, 89, 7, 5, 79]
abbrev dktX1_first_2 : List UInt8 := dkwX1_first_2 ++ dktX1_first_3
def dkwX1_first_1 : List UInt8 := [4, 5, 79, 89, 5, 3, 79, 89, 6, 16, 11, 79, 89, 7, 3, 79, 89, 8, 16, 100, 79, 83, 89, 4]
abbrev dktX1_first_1 : List UInt8 := dkwX1_first_1 ++ dktX1_first_2
def dkwX1_first_0 : List UInt8 := [187, 0, 19, 89, 183, 0, 96, 75, 7, 189, 0, 97, 89, 3, 16, 6, 188, 10, 89, 3, 16, 14, 79, 89]
abbrev dktX1_first_0 : List UInt8 := dkwX1_first_0 ++ dktX1_first_1
theorem dksX1_first_0 : cX1_first.data.toList.drop 0 = dktX1_first_0 := by decide +kernel
theorem dksX1_first_1 : cX1_first.data.toList.drop 24 = dktX1_first_1 := dk_seg dksX1_first_0 24 rfl rfl
theorem dksX1_first_2 : cX1_first.data.toList.drop 48 = dktX1_first_2 := dk_seg dksX1_first_1 24 rfl rfl
theorem dksX1_first_3 : cX1_first.data.toList.drop 72 = dktX1_first_3 := dk_seg dksX1_first_2 24 rfl rfl
theorem dksX1_first_4 : cX1_first.data.toList.drop 96 = dktX1_first_4 := dk_seg dksX1_first_3 24 rfl rfl
theorem dksX1_first_5 : cX1_first.data.toList.drop 120 = dktX1_first_5 := dk_seg dksX1_first_4 24 rfl rfl
theorem dksX1_first_6 : cX1_first.data.toList.drop 144 = dktX1_first_6 := dk_seg dksX1_first_5 24 rfl rfl
theorem dksX1_first_7 : cX1_first.data.toList.drop 168 = dktX1_first_7 := dk_seg dksX1_first_6 24 rfl rfl
theorem dX1_first_0 : decode cX1_first 0 = .ok (.new 19, 3) := dk_187 0 19 (dk_at dksX1_first_0 0 rfl rfl)
theorem dX1_first_3 : decode cX1_first 3 = .ok (.dup, 1) := dk_89 (dk_at dksX1_first_0 3 rfl rfl)
theorem dX1_first_4 : decode cX1_first 4 = .ok (.invokespecial 96, 3) := dk_183 0 96 (dk_at dksX1_first_0 4 rfl rfl)
theorem dX1_first_7 : decode cX1_first 7 = .ok (.astore_n 0, 1) := dk_75 (dk_at dksX1_first_0 7 rfl rfl)
theorem dX1_first_8 : decode cX1_first 8 = .ok (.iconst 4, 1) := dk_7 (dk_at dksX1_first_0 8 rfl rfl)
theorem dX1_first_9 : decode cX1_first 9 = .ok (.anewarray 97, 3) := dk_189 0 97 (dk_at dksX1_first_0 9 rfl rfl)
theorem dX1_first_12 : decode cX1_first 12 = .ok (.dup, 1) := dk_89 (dk_at dksX1_first_0 12 rfl rfl)
theorem dX1_first_13 : decode cX1_first 13 = .ok (.iconst 0, 1) := dk_3 (dk_at dksX1_first_0 13 rfl rfl)
theorem dX1_first_14 : decode cX1_first 14 = .ok (.bipush 6, 2) := dk_16 6 (dk_at dksX1_first_0 14 rfl rfl)
theorem dX1_first_16 : decode cX1_first 16 = .ok (.newarray .int, 2) := dk_188_10 (dk_at dksX1_first_0 16 rfl rfl)
theorem dX1_first_18 : decode cX1_first 18 = .ok (.dup, 1) := dk_89 (dk_at dksX1_first_0 18 rfl rfl)
theorem dX1_first_19 : decode cX1_first 19 = .ok (.iconst 0, 1) := dk_3 (dk_at dksX1_first_0 19 rfl rfl)
theorem dX1_first_20 : decode cX1_first 20 = .ok (.bipush 14, 2) := dk_16 14 (dk_at dksX1_first_0 20 rfl rfl)
theorem dX1_first_22 : decode cX1_first 22 = .ok (.iastore, 1) := dk_79 (dk_at dksX1_first_0 22 rfl rfl)
theorem dX1_first_23 : decode cX1_first 23 = .ok (.dup, 1) := dk_89 (dk_at dksX1_first_0 23 rfl rfl)
theorem dX1_first_24 : decode cX1_first 24 = .ok (.iconst 1, 1) := dk_4 (dk_at dksX1_first_1 0 rfl rfl)
theorem dX1_first_25 : decode cX1_first 25 = .ok (.iconst 2, 1) := dk_5 (dk_at dksX1_first_1 1 rfl rfl)
theorem dX1_first_26 : decode cX1_first 26 = .ok (.iastore, 1) := dk_79 (dk_at dksX1_first_1 2 rfl rfl)
theorem dX1_first_27 : decode cX1_first 27 = .ok (.dup, 1) := dk_89 (dk_at dksX1_first_1 3 rfl rfl)
theorem dX1_first_28 : decode cX1_first 28 = .ok (.iconst 2, 1) := dk_5 (dk_at dksX1_first_1 4 rfl rfl)
theorem dX1_first_29 : decode cX1_first 29 = .ok (.iconst 0, 1) := dk_3 (dk_at dksX1_first_1 5 rfl rfl)
theorem dX1_first_30 : decode cX1_first 30 = .ok (.iastore, 1) := dk_79 (dk_at dksX1_first_1 6 rfl rfl)
theorem dX1_first_31 : decode cX1_first 31 = .ok (.dup, 1) := dk_89 (dk_at dksX1_first_1 7 rfl rfl)
theorem dX1_first_32 : decode cX1_first 32 = .ok (.iconst 3, 1) := dk_6 (dk_at dksX1_first_1 8 rfl rfl)
theorem dX1_first_33 : decode cX1_first 33 = .ok (.bipush 11, 2) := dk_16 11 (dk_at dksX1_first_1 9 rfl rfl)
theorem dX1_first_35 : decode cX1_first 35 = .ok (.iastore, 1) := dk_79 (dk_at dksX1_first_1 11 rfl rfl)
theorem dX1_first_36 : decode cX1_first 36 = .ok (.dup, 1) := dk_89 (dk_at dksX1_first_1 12 rfl rfl)
theorem dX1_first_37 : decode cX1_first 37 = .ok (.iconst 4, 1) := dk_7 (dk_at dksX1_first_1 13 rfl rfl)
theorem dX1_first_38 : decode cX1_first 38 = .ok (.iconst 0, 1) := dk_3 (dk_at dksX1_first_1 14 rfl rfl)
theorem dX1_first_39 : decode cX1_first 39 = .ok (.iastore, 1) := dk_79 (dk_at dksX1_first_1 15 rfl rfl)
theorem dX1_first_40 : decode cX1_first 40 = .ok (.dup, 1) := dk_89 (dk_at dksX1_first_1 16 rfl rfl)
theorem dX1_first_41 : decode cX1_first 41 = .ok (.iconst 5, 1) := dk_8 (dk_at dksX1_first_1 17 rfl rfl)
theorem dX1_first_42 : decode cX1_first 42 = .ok (.bipush 100, 2) := dk_16 100 (dk_at dksX1_first_1 18 rfl rfl)
theorem dX1_first_44 : decode cX1_first 44 = .ok (.iastore, 1) := dk_79 (dk_at dksX1_first_1 20 rfl rfl)
theorem dX1_first_45 : decode cX1_first 45 = .ok (.aastore, 1) := dk_83 (dk_at dksX1_first_1 21 rfl rfl)
theorem dX1_first_46 : decode cX1_first 46 = .ok (.dup, 1) := dk_89 (dk_at dksX1_first_1 22 rfl rfl)
theorem dX1_first_47 : decode cX1_first 47 = .ok (.iconst 1, 1) := dk_4 (dk_at dksX1_first_1 23 rfl rfl)
theorem dX1_first_48 : decode cX1_first 48 = .ok (.bipush 6, 2) := dk_16 6 (dk_at dksX1_first_2 0 rfl rfl)
theorem dX1_first_50 : decode cX1_first 50 = .ok (.newarray .int, 2) := dk_188_10 (dk_at dksX1_first_2 2 rfl rfl)
theorem dX1_first_52 : decode cX1_first 52 = .ok (.dup, 1) := dk_89 (dk_at dksX1_first_2 4 rfl rfl)
theorem dX1_first_53 : decode cX1_first 53 = .ok (.iconst 0, 1) := dk_3 (dk_at dksX1_first_2 5 rfl rfl)
theorem dX1_first_54 : decode cX1_first 54 = .ok (.iconst 0, 1) := dk_3 (dk_at dksX1_first_2 6 rfl rfl)
theorem dX1_first_55 : decode cX1_first 55 = .ok (.iastore, 1) := dk_79 (dk_at dksX1_first_2 7 rfl rfl)
theorem dX1_first_56 : decode cX1_first 56 = .ok (.dup, 1) := dk_89 (dk_at dksX1_first_2 8 rfl rfl)
theorem dX1_first_57 : decode cX1_first 57 = .ok (.iconst 1, 1) := dk_4 (dk_at dksX1_first_2 9 rfl rfl)
theorem dX1_first_58 : decode cX1_first 58 = .ok (.iconst 4, 1) := dk_7 (dk_at dksX1_first_2 10 rfl rfl)
theorem dX1_first_59 : decode cX1_first 59 = .ok (.iastore, 1) := dk_79 (dk_at dksX1_first_2 11 rfl rfl)
theorem dX1_first_60 : decode cX1_first 60 = .ok (.dup, 1) := dk_89 (dk_at dksX1_first_2 12 rfl rfl)
theorem dX1_first_61 : decode cX1_first 61 = .ok (.iconst 2, 1) := dk_5 (dk_at dksX1_first_2 13 rfl rfl)
theorem dX1_first_62 : decode cX1_first 62 = .ok (.iconst 0, 1) := dk_3 (dk_at dksX1_first_2 14 rfl rfl)
theorem dX1_first_63 : decode cX1_first 63 = .ok (.iastore, 1) := dk_79 (dk_at dksX1_first_2 15 rfl rfl)
theorem dX1_first_64 : decode cX1_first 64 = .ok (.dup, 1) := dk_89 (dk_at dksX1_first_2 16 rfl rfl)
theorem dX1_first_65 : decode cX1_first 65 = .ok (.iconst 3, 1) := dk_6 (dk_at dksX1_first_2 17 rfl rfl)
theorem dX1_first_66 : decode cX1_first 66 = .ok (.iconst 1, 1) := dk_4 (dk_at dksX1_first_2 18 rfl rfl)
theorem dX1_first_67 : decode cX1_first 67 = .ok (.iastore, 1) := dk_79 (dk_at dksX1_first_2 19 rfl rfl)
theorem dX1_first_68 : decode cX1_first 68 = .ok (.dup, 1) := dk_89 (dk_at dksX1_first_2 20 rfl rfl)
theorem dX1_first_69 : decode cX1_first 69 = .ok (.iconst 4, 1) := dk_7 (dk_at dksX1_first_2 21 rfl rfl)
theorem dX1_first_70 : decode cX1_first 70 = .ok (.iconst 2, 1) := dk_5 (dk_at dksX1_first_2 22 rfl rfl)
theorem dX1_first_71 : decode cX1_first 71 = .ok (.iastore, 1) := dk_79 (dk_at dksX1_first_2 23 rfl rfl)
theorem dX1_first_72 : decode cX1_first 72 = .ok (.dup, 1) := dk_89 (dk_at dksX1_first_3 0 rfl rfl)
theorem dX1_first_73 : decode cX1_first 73 = .ok (.iconst 5, 1) := dk_8 (dk_at dksX1_first_3 1 rfl rfl)
theorem dX1_first_74 : decode cX1_first 74 = .ok (.bipush 120, 2) := dk_16 120 (dk_at dksX1_first_3 2 rfl rfl)
theorem dX1_first_76 : decode cX1_first 76 = .ok (.iastore, 1) := dk_79 (dk_at dksX1_first_3 4 rfl rfl)
theorem dX1_first_77 : decode cX1_first 77 = .ok (.aastore, 1) := dk_83 (dk_at dksX1_first_3 5 rfl rfl)
theorem dX1_first_78 : decode cX1_first 78 = .ok (.dup, 1) := dk_89 (dk_at dksX1_first_3 6 rfl rfl)
theorem dX1_first_79 : decode cX1_first 79 = .ok (.iconst 2, 1) := dk_5 (dk_at dksX1_first_3 7 rfl rfl)
theorem dX1_first_80 : decode cX1_first 80 = .ok (.bipush 6, 2) := dk_16 6 (dk_at dksX1_first_3 8 rfl rfl)
theorem dX1_first_82 : decode cX1_first 82 = .ok (.newarray .int, 2) := dk_188_10 (dk_at dksX1_first_3 10 rfl rfl)
theorem dX1_first_84 : decode cX1_first 84 = .ok (.dup, 1) := dk_89 (dk_at dksX1_first_3 12 rfl rfl)
theorem dX1_first_85 : decode cX1_first 85 = .ok (.iconst 0, 1) := dk_3 (dk_at dksX1_first_3 13 rfl rfl)
theorem dX1_first_86 : decode cX1_first 86 = .ok (.bipush 8, 2) := dk_16 8 (dk_at dksX1_first_3 14 rfl rfl)
theorem dX1_first_88 : decode cX1_first 88 = .ok (.iastore, 1) := dk_79 (dk_at dksX1_first_3 16 rfl rfl)
theorem dX1_first_89 : decode cX1_first 89 = .ok (.dup, 1) := dk_89 (dk_at dksX1_first_3 17 rfl rfl)
theorem dX1_first_90 : decode cX1_first 90 = .ok (.iconst 1, 1) := dk_4 (dk_at dksX1_first_3 18 rfl rfl)
theorem dX1_first_91 : decode cX1_first 91 = .ok (.bipush 12, 2) := dk_16 12 (dk_at dksX1_first_3 19 rfl rfl)
theorem dX1_first_93 : decode cX1_first 93 = .ok (.iastore, 1) := dk_79 (dk_at dksX1_first_3 21 rfl rfl)
theorem dX1_first_94 : decode cX1_first 94 = .ok (.dup, 1) := dk_89 (dk_at dksX1_first_3 22 rfl rfl)
theorem dX1_first_95 : decode cX1_first 95 = .ok (.iconst 2, 1) := dk_5 (dk_at dksX1_first_3 23 rfl rfl)
theorem dX1_first_96 : decode cX1_first 96 = .ok (.iconst 2, 1) := dk_5 (dk_at dksX1_first_4 0 rfl rfl)
theorem dX1_first_97 : decode cX1_first 97 = .ok (.iastore, 1) := dk_79 (dk_at dksX1_first_4 1 rfl rfl)
theorem dX1_first_98 : decode cX1_first 98 = .ok (.dup, 1) := dk_89 (dk_at dksX1_first_4 2 rfl rfl)
theorem dX1_first_99 : decode cX1_first 99 = .ok (.iconst 3, 1) := dk_6 (dk_at dksX1_first_4 3 rfl rfl)
theorem dX1_first_100 : decode cX1_first 100 = .ok (.bipush 9, 2) := dk_16 9 (dk_at dksX1_first_4 4 rfl rfl)
theorem dX1_first_102 : decode cX1_first 102 = .ok (.iastore, 1) := dk_79 (dk_at dksX1_first_4 6 rfl rfl)
theorem dX1_first_103 : decode cX1_first 103 = .ok (.dup, 1) := dk_89 (dk_at dksX1_first_4 7 rfl rfl)
theorem dX1_first_104 : decode cX1_first 104 = .ok (.iconst 4, 1) := dk_7 (dk_at dksX1_first_4 8 rfl rfl)
theorem dX1_first_105 : decode cX1_first 105 = .ok (.iconst 1, 1) := dk_4 (dk_at dksX1_first_4 9 rfl rfl)
theorem dX1_first_106 : decode cX1_first 106 = .ok (.iastore, 1) := dk_79 (dk_at dksX1_first_4 10 rfl rfl)
theorem dX1_first_107 : decode cX1_first 107 = .ok (.dup, 1) := dk_89 (dk_at dksX1_first_4 11 rfl rfl)
theorem dX1_first_108 : decode cX1_first 108 = .ok (.iconst 5, 1) := dk_8 (dk_at dksX1_first_4 12 rfl rfl)
theorem dX1_first_109 : decode cX1_first 109 = .ok (.bipush 80, 2) := dk_16 80 (dk_at dksX1_first_4 13 rfl rfl)
theorem dX1_first_111 : decode cX1_first 111 = .ok (.iastore, 1) := dk_79 (dk_at dksX1_first_4 15 rfl rfl)
theorem dX1_first_112 : decode cX1_first 112 = .ok (.aastore, 1) := dk_83 (dk_at dksX1_first_4 16 rfl rfl)
theorem dX1_first_113 : decode cX1_first 113 = .ok (.dup, 1) := dk_89 (dk_at dksX1_first_4 17 rfl rfl)
theorem dX1_first_114 : decode cX1_first 114 = .ok (.iconst 3, 1) := dk_6 (dk_at dksX1_first_4 18 rfl rfl)
theorem dX1_first_115 : decode cX1_first 115 = .ok (.bipush 6, 2) := dk_16 6 (dk_at dksX1_first_4 19 rfl rfl)
theorem dX1_first_117 : decode cX1_first 117 = .ok (.newarray .int, 2) := dk_188_10 (dk_at dksX1_first_4 21 rfl rfl)
theorem dX1_first_119 : decode cX1_first 119 = .ok (.dup, 1) := dk_89 (dk_at dksX1_first_4 23 rfl rfl)
theorem dX1_first_120 : decode cX1_first 120 = .ok (.iconst 0, 1) := dk_3 (dk_at dksX1_first_5 0 rfl rfl)
theorem dX1_first_121 : decode cX1_first 121 = .ok (.bipush 10, 2) := dk_16 10 (dk_at dksX1_first_5 1 rfl rfl)
theorem dX1_first_123 : decode cX1_first 123 = .ok (.iastore, 1) := dk_79 (dk_at dksX1_first_5 3 rfl rfl)
theorem dX1_first_124 : decode cX1_first 124 = .ok (.dup, 1) := dk_89 (dk_at dksX1_first_5 4 rfl rfl)
theorem dX1_first_125 : decode cX1_first 125 = .ok (.iconst 1, 1) := dk_4 (dk_at dksX1_first_5 5 rfl rfl)
theorem dX1_first_126 : decode cX1_first 126 = .ok (.bipush 10, 2) := dk_16 10 (dk_at dksX1_first_5 6 rfl rfl)
theorem dX1_first_128 : decode cX1_first 128 = .ok (.iastore, 1) := dk_79 (dk_at dksX1_first_5 8 rfl rfl)
theorem dX1_first_129 : decode cX1_first 129 = .ok (.dup, 1) := dk_89 (dk_at dksX1_first_5 9 rfl rfl)
theorem dX1_first_130 : decode cX1_first 130 = .ok (.iconst 2, 1) := dk_5 (dk_at dksX1_first_5 10 rfl rfl)
theorem dX1_first_131 : decode cX1_first 131 = .ok (.iconst 0, 1) := dk_3 (dk_at dksX1_first_5 11 rfl rfl)
theorem dX1_first_132 : decode cX1_first 132 = .ok (.iastore, 1) := dk_79 (dk_at dksX1_first_5 12 rfl rfl)
theorem dX1_first_133 : decode cX1_first 133 = .ok (.dup, 1) := dk_89 (dk_at dksX1_first_5 13 rfl rfl)
theorem dX1_first_134 : decode cX1_first 134 = .ok (.iconst 3, 1) := dk_6 (dk_at dksX1_first_5 14 rfl rfl)
theorem dX1_first_135 : decode cX1_first 135 = .ok (.bipush 11, 2) := dk_16 11 (dk_at dksX1_first_5 15 rfl rfl)
theorem dX1_first_137 : decode cX1_first 137 = .ok (.iastore, 1) := dk_79 (dk_at dksX1_first_5 17 rfl rfl)
theorem dX1_first_138 : decode cX1_first 138 = .ok (.dup, 1) := dk_89 (dk_at dksX1_first_5 18 rfl rfl)
theorem dX1_first_139 : decode cX1_first 139 = .ok (.iconst 4, 1) := dk_7 (dk_at dksX1_first_5 19 rfl rfl)
theorem dX1_first_140 : decode cX1_first 140 = .ok (.iconst 3, 1) := dk_6 (dk_at dksX1_first_5 20 rfl rfl)
theorem dX1_first_141 : decode cX1_first 141 = .ok (.iastore, 1) := dk_79 (dk_at dksX1_first_5 21 rfl rfl)
theorem dX1_first_142 : decode cX1_first 142 = .ok (.dup, 1) := dk_89 (dk_at dksX1_first_5 22 rfl rfl)
theorem dX1_first_143 : decode cX1_first 143 = .ok (.iconst 5, 1) := dk_8 (dk_at dksX1_first_5 23 rfl rfl)
theorem dX1_first_144 : decode cX1_first 144 = .ok (.sipush 300, 3) := dk_17 1 44 (dk_at dksX1_first_6 0 rfl rfl)
theorem dX1_first_147 : decode cX1_first 147 = .ok (.iastore, 1) := dk_79 (dk_at dksX1_first_6 3 rfl rfl)
theorem dX1_first_148 : decode cX1_first 148 = .ok (.aastore, 1) := dk_83 (dk_at dksX1_first_6 4 rfl rfl)
theorem dX1_first_149 : decode cX1_first 149 = .ok (.astore_n 1, 1) := dk_76 (dk_at dksX1_first_6 5 rfl rfl)
theorem dX1_first_150 : decode cX1_first 150 = .ok (.aload_n 1, 1) := dk_43 (dk_at dksX1_first_6 6 rfl rfl)
theorem dX1_first_151 : decode cX1_first 151 = .ok (.astore_n 2, 1) := dk_77 (dk_at dksX1_first_6 7 rfl rfl)
theorem dX1_first_152 : decode cX1_first 152 = .ok (.aload_n 2, 1) := dk_44 (dk_at dksX1_first_6 8 rfl rfl)
theorem dX1_first_153 : decode cX1_first 153 = .ok (.arraylength, 1) := dk_190 (dk_at dksX1_first_6 9 rfl rfl)
theorem dX1_first_154 : decode cX1_first 154 = .ok (.istore_n 3, 1) := dk_62 (dk_at dksX1_first_6 10 rfl rfl)
theorem dX1_first_155 : decode cX1_first 155 = .ok (.iconst 0, 1) := dk_3 (dk_at dksX1_first_6 11 rfl rfl)
theorem dX1_first_156 : decode cX1_first 156 = .ok (.istore 4, 2) := dk_54 4 (dk_at dksX1_first_6 12 rfl rfl)
theorem dX1_first_158 : decode cX1_first 158 = .ok (.iload 4, 2) := dk_21 4 (dk_at dksX1_first_6 14 rfl rfl)
theorem dX1_first_160 : decode cX1_first 160 = .ok (.iload_n 3, 1) := dk_29 (dk_at dksX1_first_6 16 rfl rfl)
theorem dX1_first_161 : decode cX1_first 161 = .ok (.if_icmp .ge 23, 3) := dk_162 0 23 (dk_at dksX1_first_6 17 rfl rfl)
theorem dX1_first_164 : decode cX1_first 164 = .ok (.aload_n 2, 1) := dk_44 (dk_at dksX1_first_6 20 rfl rfl)
theorem dX1_first_165 : decode cX1_first 165 = .ok (.iload 4, 2) := dk_21 4 (dk_at dksX1_first_6 21 rfl rfl)
theorem dX1_first_167 : decode cX1_first 167 = .ok (.aaload, 1) := dk_50 (dk_at dksX1_first_6 23 rfl rfl)
theorem dX1_first_168 : decode cX1_first 168 = .ok (.astore 5, 2) := dk_58 5 (dk_at dksX1_first_7 0 rfl rfl)
theorem dX1_first_170 : decode cX1_first 170 = .ok (.aload_n 0, 1) := dk_42 (dk_at dksX1_first_7 2 rfl rfl)
theorem dX1_first_171 : decode cX1_first 171 = .ok (.aload 5, 2) := dk_25 5 (dk_at dksX1_first_7 3 rfl rfl)
theorem dX1_first_173 : decode cX1_first 173 = .ok (.invokevirtual 38, 3) := dk_182 0 38 (dk_at dksX1_first_7 5 rfl rfl)
theorem dX1_first_176 : decode cX1_first 176 = .ok (.istore 6, 2) := dk_54 6 (dk_at dksX1_first_7 8 rfl rfl)
theorem dX1_first_178 : decode cX1_first 178 = .ok (.iinc 4 1, 3) := dk_132 4 1 (dk_at dksX1_first_7 10 rfl rfl)
theorem dX1_first_181 : decode cX1_first 181 = .ok (.goto (-23), 3) := dk_167 255 233 (dk_at dksX1_first_7 13 rfl rfl)
theorem dX1_first_184 : decode cX1_first 184 = .ok (.aload_n 0, 1) := dk_42 (dk_at dksX1_first_7 16 rfl rfl)
theorem dX1_first_185 : decode cX1_first 185 = .ok (.areturn, 1) := dk_176 (dk_at dksX1_first_7 17 rfl rfl)
abbrev cX1_appendInput : ByteArray := prog_1_method_14_code
def yX1_appendInput : MethodName := ⟨RX1, "appendInput", "(IIIII)I"⟩
def dkwX1_appendInput_2 : List UInt8 := [172]
abbrev dktX1_appendInput_2 : List UInt8 := dkwX1_appendInput_2 ++ []
def dkwX1_appendInput_1 : List UInt8 := [182, 0, 101, 42, 29, 182, 0, 101, 42, 21, 4, 182, 0, 101, 42, 21, 5, 182, 0, 101, 42, 180, 0, 98]
abbrev dktX1_appendInput_1 : List UInt8 := dkwX1_appendInput_1 ++ dktX1_appendInput_2
def dkwX1_appendInput_0 : List UInt8 := [42, 180, 0, 98, 16, 20, 96, 17, 2, 188, 164, 0, 5, 2, 172, 42, 27, 182, 0, 101, 42, 28]
abbrev dktX1_appendInput_0 : List UInt8 := dkwX1_appendInput_0 ++ dktX1_appendInput_1
theorem dksX1_appendInput_0 : cX1_appendInput.data.toList.drop 0 = dktX1_appendInput_0 := by decide +kernel
theorem dksX1_appendInput_1 : cX1_appendInput.data.toList.drop 22 = dktX1_appendInput_1 := dk_seg dksX1_appendInput_0 22 rfl rfl
theorem dksX1_appendInput_2 : cX1_appendInput.data.toList.drop 46 = dktX1_appendInput_2 := dk_seg dksX1_appendInput_1 24 rfl rfl
theorem dX1_appendInput_0 : decode cX1_appendInput 0 = .ok (.aload_n 0, 1) := dk_42 (dk_at dksX1_appendInput_0 0 rfl rfl)
theorem dX1_appendInput_1 : decode cX1_appendInput 1 = .ok (.getfield 98, 3) := dk_180 0 98 (dk_at dksX1_appendInput_0 1 rfl rfl)
theorem dX1_appendInput_4 : decode cX1_appendInput 4 = .ok (.bipush 20, 2) := dk_16 20 (dk_at dksX1_appendInput_0 4 rfl rfl)
theorem dX1_appendInput_6 : decode cX1_appendInput 6 = .ok (.iadd, 1) := dk_96 (dk_at dksX1_appendInput_0 6 rfl rfl)
theorem dX1_appendInput_7 : decode cX1_appendInput 7 = .ok (.sipush 700, 3) := dk_17 2 188 (dk_at dksX1_appendInput_0 7 rfl rfl)
theorem dX1_appendInput_10 : decode cX1_appendInput 10 = .ok (.if_icmp .le 5, 3) := dk_164 0 5 (dk_at dksX1_appendInput_0 10 rfl rfl)
theorem dX1_appendInput_13 : decode cX1_appendInput 13 = .ok (.iconst (-1), 1) := dk_2 (dk_at dksX1_appendInput_0 13 rfl rfl)
theorem dX1_appendInput_14 : decode cX1_appendInput 14 = .ok (.ireturn, 1) := dk_172 (dk_at dksX1_appendInput_0 14 rfl rfl)
theorem dX1_appendInput_15 : decode cX1_appendInput 15 = .ok (.aload_n 0, 1) := dk_42 (dk_at dksX1_appendInput_0 15 rfl rfl)
theorem dX1_appendInput_16 : decode cX1_appendInput 16 = .ok (.iload_n 1, 1) := dk_27 (dk_at dksX1_appendInput_0 16 rfl rfl)
theorem dX1_appendInput_17 : decode cX1_appendInput 17 = .ok (.invokevirtual 101, 3) := dk_182 0 101 (dk_at dksX1_appendInput_0 17 rfl rfl)
theorem dX1_appendInput_20 : decode cX1_appendInput 20 = .ok (.aload_n 0, 1) := dk_42 (dk_at dksX1_appendInput_0 20 rfl rfl)
theorem dX1_appendInput_21 : decode cX1_appendInput 21 = .ok (.iload_n 2, 1) := dk_28 (dk_at dksX1_appendInput_0 21 rfl rfl)
theorem dX1_appendInput_22 : decode cX1_appendInput 22 = .ok (.invokevirtual 101, 3) := dk_182 0 101 (dk_at dksX1_appendInput_1 0 rfl rfl)
theorem dX1_appendInput_25 : decode cX1_appendInput 25 = .ok (.aload_n 0, 1) := dk_42 (dk_at dksX1_appendInput_1 3 rfl rfl)
theorem dX1_appendInput_26 : decode cX1_appendInput 26 = .ok (.iload_n 3, 1) := dk_29 (dk_at dksX1_appendInput_1 4 rfl rfl)
theorem dX1_appendInput_27 : decode cX1_appendInput 27 = .ok (.invokevirtual 101, 3) := dk_182 0 101 (dk_at dksX1_appendInput_1 5 rfl rfl)
theorem dX1_appendInput_30 : decode cX1_appendInput 30 = .ok (.aload_n 0, 1) := dk_42 (dk_at dksX1_appendInput_1 8 rfl rfl)
theorem dX1_appendInput_31 : decode cX1_appendInput 31 = .ok (.iload 4, 2) := dk_21 4 (dk_at dksX1_appendInput_1 9 rfl rfl)
theorem dX1_appendInput_33 : decode cX1_appendInput 33 = .ok (.invokevirtual 101, 3) := dk_182 0 101 (dk_at dksX1_appendInput_1 11 rfl rfl)
theorem dX1_appendInput_36 : decode cX1_appendInput 36 = .ok (.aload_n 0, 1) := dk_42 (dk_at dksX1_appendInput_1 14 rfl rfl)
theorem dX1_appendInput_37 : decode cX1_appendInput 37 = .ok (.iload 5, 2) := dk_21 5 (dk_at dksX1_appendInput_1 15 rfl rfl)
theorem dX1_appendInput_39 : decode cX1_appendInput 39 = .ok (.invokevirtual 101, 3) := dk_182 0 101 (dk_at dksX1_appendInput_1 17 rfl rfl)
theorem dX1_appendInput_42 : decode cX1_appendInput 42 = .ok (.aload_n 0, 1) := dk_42 (dk_at dksX1_appendInput_1 20 rfl rfl)
theorem dX1_appendInput_43 : decode cX1_appendInput 43 = .ok (.getfield 98, 3) := dk_180 0 98 (dk_at dksX1_appendInput_1 21 rfl rfl)
theorem dX1_appendInput_46 : decode cX1_appendInput 46 = .ok (.ireturn, 1) := dk_172 (dk_at dksX1_appendInput_2 0 rfl rfl)
abbrev cX1_appends : ByteArray := prog_1_method_13_code
def yX1_appends : MethodName := ⟨RX1, "appends", "(I)V"⟩
def dkwX1_appends_1 : List UInt8 := [180, 0, 98, 4, 96, 181, 0, 98, 132, 2, 248, 167, 255, 226, 177]
abbrev dktX1_appends_1 : List UInt8 := dkwX1_appends_1 ++ []
def dkwX1_appends_0 : List UInt8 := [16, 24, 61, 28, 155, 0, 32, 42, 180, 0, 60, 42, 180, 0, 98, 27, 28, 122, 145, 84, 42, 89]
abbrev dktX1_appends_0 : List UInt8 := dkwX1_appends_0 ++ dktX1_appends_1
theorem dksX1_appends_0 : cX1_appends.data.toList.drop 0 = dktX1_appends_0 := by decide +kernel
theorem dksX1_appends_1 : cX1_appends.data.toList.drop 22 = dktX1_appends_1 := dk_seg dksX1_appends_0 22 rfl rfl
theorem dX1_appends_0 : decode cX1_appends 0 = .ok (.bipush 24, 2) := dk_16 24 (dk_at dksX1_appends_0 0 rfl rfl)
theorem dX1_appends_2 : decode cX1_appends 2 = .ok (.istore_n 2, 1) := dk_61 (dk_at dksX1_appends_0 2 rfl rfl)
theorem dX1_appends_3 : decode cX1_appends 3 = .ok (.iload_n 2, 1) := dk_28 (dk_at dksX1_appends_0 3 rfl rfl)
theorem dX1_appends_4 : decode cX1_appends 4 = .ok (.ifCond .lt 32, 3) := dk_155 0 32 (dk_at dksX1_appends_0 4 rfl rfl)
theorem dX1_appends_7 : decode cX1_appends 7 = .ok (.aload_n 0, 1) := dk_42 (dk_at dksX1_appends_0 7 rfl rfl)
theorem dX1_appends_8 : decode cX1_appends 8 = .ok (.getfield 60, 3) := dk_180 0 60 (dk_at dksX1_appends_0 8 rfl rfl)
theorem dX1_appends_11 : decode cX1_appends 11 = .ok (.aload_n 0, 1) := dk_42 (dk_at dksX1_appends_0 11 rfl rfl)
theorem dX1_appends_12 : decode cX1_appends 12 = .ok (.getfield 98, 3) := dk_180 0 98 (dk_at dksX1_appends_0 12 rfl rfl)
theorem dX1_appends_15 : decode cX1_appends 15 = .ok (.iload_n 1, 1) := dk_27 (dk_at dksX1_appends_0 15 rfl rfl)
theorem dX1_appends_16 : decode cX1_appends 16 = .ok (.iload_n 2, 1) := dk_28 (dk_at dksX1_appends_0 16 rfl rfl)
theorem dX1_appends_17 : decode cX1_appends 17 = .ok (.ishr, 1) := dk_122 (dk_at dksX1_appends_0 17 rfl rfl)
theorem dX1_appends_18 : decode cX1_appends 18 = .ok (.i2b, 1) := dk_145 (dk_at dksX1_appends_0 18 rfl rfl)
theorem dX1_appends_19 : decode cX1_appends 19 = .ok (.bastore, 1) := dk_84 (dk_at dksX1_appends_0 19 rfl rfl)
theorem dX1_appends_20 : decode cX1_appends 20 = .ok (.aload_n 0, 1) := dk_42 (dk_at dksX1_appends_0 20 rfl rfl)
theorem dX1_appends_21 : decode cX1_appends 21 = .ok (.dup, 1) := dk_89 (dk_at dksX1_appends_0 21 rfl rfl)
theorem dX1_appends_22 : decode cX1_appends 22 = .ok (.getfield 98, 3) := dk_180 0 98 (dk_at dksX1_appends_1 0 rfl rfl)
theorem dX1_appends_25 : decode cX1_appends 25 = .ok (.iconst 1, 1) := dk_4 (dk_at dksX1_appends_1 3 rfl rfl)
theorem dX1_appends_26 : decode cX1_appends 26 = .ok (.iadd, 1) := dk_96 (dk_at dksX1_appends_1 4 rfl rfl)
theorem dX1_appends_27 : decode cX1_appends 27 = .ok (.putfield 98, 3) := dk_181 0 98 (dk_at dksX1_appends_1 5 rfl rfl)
theorem dX1_appends_30 : decode cX1_appends 30 = .ok (.iinc 2 (-8), 3) := dk_132 2 248 (dk_at dksX1_appends_1 8 rfl rfl)
theorem dX1_appends_33 : decode cX1_appends 33 = .ok (.goto (-30), 3) := dk_167 255 226 (dk_at dksX1_appends_1 11 rfl rfl)
theorem dX1_appends_36 : decode cX1_appends 36 = .ok (.return_, 1) := dk_177 (dk_at dksX1_appends_1 14 rfl rfl)
abbrev cX1_truncateInput : ByteArray := prog_1_method_15_code
def yX1_truncateInput : MethodName := ⟨RX1, "truncateInput", "(I)Z"⟩
def dkwX1_truncateInput_0 : List UInt8 := [27, 133, 9, 42, 180, 0, 98, 133, 184, 0, 105, 154, 0, 5, 3, 172, 42, 27, 181, 0, 98, 4, 172]
abbrev dktX1_truncateInput_0 : List UInt8 := dkwX1_truncateInput_0 ++ []
theorem dksX1_truncateInput_0 : cX1_truncateInput.data.toList.drop 0 = dktX1_truncateInput_0 := by decide +kernel
theorem dX1_truncateInput_0 : decode cX1_truncateInput 0 = .ok (.iload_n 1, 1) := dk_27 (dk_at dksX1_truncateInput_0 0 rfl rfl)
theorem dX1_truncateInput_1 : decode cX1_truncateInput 1 = .ok (.i2l, 1) := dk_133 (dk_at dksX1_truncateInput_0 1 rfl rfl)
theorem dX1_truncateInput_2 : decode cX1_truncateInput 2 = .ok (.lconst 0, 1) := dk_9 (dk_at dksX1_truncateInput_0 2 rfl rfl)
theorem dX1_truncateInput_3 : decode cX1_truncateInput 3 = .ok (.aload_n 0, 1) := dk_42 (dk_at dksX1_truncateInput_0 3 rfl rfl)
theorem dX1_truncateInput_4 : decode cX1_truncateInput 4 = .ok (.getfield 98, 3) := dk_180 0 98 (dk_at dksX1_truncateInput_0 4 rfl rfl)
theorem dX1_truncateInput_7 : decode cX1_truncateInput 7 = .ok (.i2l, 1) := dk_133 (dk_at dksX1_truncateInput_0 7 rfl rfl)
theorem dX1_truncateInput_8 : decode cX1_truncateInput 8 = .ok (.invokestatic 105, 3) := dk_184 0 105 (dk_at dksX1_truncateInput_0 8 rfl rfl)
theorem dX1_truncateInput_11 : decode cX1_truncateInput 11 = .ok (.ifCond .ne 5, 3) := dk_154 0 5 (dk_at dksX1_truncateInput_0 11 rfl rfl)
theorem dX1_truncateInput_14 : decode cX1_truncateInput 14 = .ok (.iconst 0, 1) := dk_3 (dk_at dksX1_truncateInput_0 14 rfl rfl)
theorem dX1_truncateInput_15 : decode cX1_truncateInput 15 = .ok (.ireturn, 1) := dk_172 (dk_at dksX1_truncateInput_0 15 rfl rfl)
theorem dX1_truncateInput_16 : decode cX1_truncateInput 16 = .ok (.aload_n 0, 1) := dk_42 (dk_at dksX1_truncateInput_0 16 rfl rfl)
theorem dX1_truncateInput_17 : decode cX1_truncateInput 17 = .ok (.iload_n 1, 1) := dk_27 (dk_at dksX1_truncateInput_0 17 rfl rfl)
theorem dX1_truncateInput_18 : decode cX1_truncateInput 18 = .ok (.putfield 98, 3) := dk_181 0 98 (dk_at dksX1_truncateInput_0 18 rfl rfl)
theorem dX1_truncateInput_21 : decode cX1_truncateInput 21 = .ok (.iconst 1, 1) := dk_4 (dk_at dksX1_truncateInput_0 21 rfl rfl)
theorem dX1_truncateInput_22 : decode cX1_truncateInput 22 = .ok (.ireturn, 1) := dk_172 (dk_at dksX1_truncateInput_0 22 rfl rfl)
abbrev cX1_isIn : ByteArray := prog_1_method_1_code
def yX1_isIn : MethodName := ⟨RX1, "isIn", "(JJJ)Z"⟩
def dkwX1_isIn_0 : List UInt8 := [30, 32, 148, 155, 0, 14, 30, 22, 4, 148, 157, 0, 7, 4, 167, 0, 4, 3, 172]
abbrev dktX1_isIn_0 : List UInt8 := dkwX1_isIn_0 ++ []
theorem dksX1_isIn_0 : cX1_isIn.data.toList.drop 0 = dktX1_isIn_0 := by decide +kernel
theorem dX1_isIn_0 : decode cX1_isIn 0 = .ok (.lload_n 0, 1) := dk_30 (dk_at dksX1_isIn_0 0 rfl rfl)
theorem dX1_isIn_1 : decode cX1_isIn 1 = .ok (.lload_n 2, 1) := dk_32 (dk_at dksX1_isIn_0 1 rfl rfl)
theorem dX1_isIn_2 : decode cX1_isIn 2 = .ok (.lcmp, 1) := dk_148 (dk_at dksX1_isIn_0 2 rfl rfl)
theorem dX1_isIn_3 : decode cX1_isIn 3 = .ok (.ifCond .lt 14, 3) := dk_155 0 14 (dk_at dksX1_isIn_0 3 rfl rfl)
theorem dX1_isIn_6 : decode cX1_isIn 6 = .ok (.lload_n 0, 1) := dk_30 (dk_at dksX1_isIn_0 6 rfl rfl)
theorem dX1_isIn_7 : decode cX1_isIn 7 = .ok (.lload 4, 2) := dk_22 4 (dk_at dksX1_isIn_0 7 rfl rfl)
theorem dX1_isIn_9 : decode cX1_isIn 9 = .ok (.lcmp, 1) := dk_148 (dk_at dksX1_isIn_0 9 rfl rfl)
theorem dX1_isIn_10 : decode cX1_isIn 10 = .ok (.ifCond .gt 7, 3) := dk_157 0 7 (dk_at dksX1_isIn_0 10 rfl rfl)
theorem dX1_isIn_13 : decode cX1_isIn 13 = .ok (.iconst 1, 1) := dk_4 (dk_at dksX1_isIn_0 13 rfl rfl)
theorem dX1_isIn_14 : decode cX1_isIn 14 = .ok (.goto 4, 3) := dk_167 0 4 (dk_at dksX1_isIn_0 14 rfl rfl)
theorem dX1_isIn_17 : decode cX1_isIn 17 = .ok (.iconst 0, 1) := dk_3 (dk_at dksX1_isIn_0 17 rfl rfl)
theorem dX1_isIn_18 : decode cX1_isIn 18 = .ok (.ireturn, 1) := dk_172 (dk_at dksX1_isIn_0 18 rfl rfl)
abbrev cX1_loadRose : ByteArray := prog_1_method_18_code
def yX1_loadRose : MethodName := ⟨RX1, "loadRose", "()I"⟩
def dkwX1_loadRose_3 : List UInt8 := [3, 181, 0, 98, 28, 172, 78, 42, 3, 181, 0, 98, 45, 191]
abbrev dktX1_loadRose_3 : List UInt8 := dkwX1_loadRose_3 ++ []
def dkwX1_loadRose_2 : List UInt8 := [180, 0, 18, 185, 0, 24, 1, 0, 60, 42, 3, 181, 0, 98, 27, 172, 76, 42, 43, 182, 0, 137, 61, 42]
abbrev dktX1_loadRose_2 : List UInt8 := dkwX1_loadRose_2 ++ dktX1_loadRose_3
def dkwX1_loadRose_1 : List UInt8 := [182, 0, 76, 181, 0, 79, 42, 180, 0, 85, 182, 0, 131, 42, 1, 181, 0, 134, 42, 180, 0, 72]
abbrev dktX1_loadRose_1 : List UInt8 := dkwX1_loadRose_1 ++ dktX1_loadRose_2
def dkwX1_loadRose_0 : List UInt8 := [42, 182, 0, 120, 42, 187, 0, 123, 89, 42, 183, 0, 125, 182, 0, 128, 181, 0, 72, 42, 42, 180, 0, 72]
abbrev dktX1_loadRose_0 : List UInt8 := dkwX1_loadRose_0 ++ dktX1_loadRose_1
theorem dksX1_loadRose_0 : cX1_loadRose.data.toList.drop 0 = dktX1_loadRose_0 := by decide +kernel
theorem dksX1_loadRose_1 : cX1_loadRose.data.toList.drop 24 = dktX1_loadRose_1 := dk_seg dksX1_loadRose_0 24 rfl rfl
theorem dksX1_loadRose_2 : cX1_loadRose.data.toList.drop 46 = dktX1_loadRose_2 := dk_seg dksX1_loadRose_1 22 rfl rfl
theorem dksX1_loadRose_3 : cX1_loadRose.data.toList.drop 70 = dktX1_loadRose_3 := dk_seg dksX1_loadRose_2 24 rfl rfl
theorem dX1_loadRose_0 : decode cX1_loadRose 0 = .ok (.aload_n 0, 1) := dk_42 (dk_at dksX1_loadRose_0 0 rfl rfl)
theorem dX1_loadRose_1 : decode cX1_loadRose 1 = .ok (.invokevirtual 120, 3) := dk_182 0 120 (dk_at dksX1_loadRose_0 1 rfl rfl)
theorem dX1_loadRose_4 : decode cX1_loadRose 4 = .ok (.aload_n 0, 1) := dk_42 (dk_at dksX1_loadRose_0 4 rfl rfl)
theorem dX1_loadRose_5 : decode cX1_loadRose 5 = .ok (.new 123, 3) := dk_187 0 123 (dk_at dksX1_loadRose_0 5 rfl rfl)
theorem dX1_loadRose_8 : decode cX1_loadRose 8 = .ok (.dup, 1) := dk_89 (dk_at dksX1_loadRose_0 8 rfl rfl)
theorem dX1_loadRose_9 : decode cX1_loadRose 9 = .ok (.aload_n 0, 1) := dk_42 (dk_at dksX1_loadRose_0 9 rfl rfl)
theorem dX1_loadRose_10 : decode cX1_loadRose 10 = .ok (.invokespecial 125, 3) := dk_183 0 125 (dk_at dksX1_loadRose_0 10 rfl rfl)
theorem dX1_loadRose_13 : decode cX1_loadRose 13 = .ok (.invokevirtual 128, 3) := dk_182 0 128 (dk_at dksX1_loadRose_0 13 rfl rfl)
theorem dX1_loadRose_16 : decode cX1_loadRose 16 = .ok (.putfield 72, 3) := dk_181 0 72 (dk_at dksX1_loadRose_0 16 rfl rfl)
theorem dX1_loadRose_19 : decode cX1_loadRose 19 = .ok (.aload_n 0, 1) := dk_42 (dk_at dksX1_loadRose_0 19 rfl rfl)
theorem dX1_loadRose_20 : decode cX1_loadRose 20 = .ok (.aload_n 0, 1) := dk_42 (dk_at dksX1_loadRose_0 20 rfl rfl)
theorem dX1_loadRose_21 : decode cX1_loadRose 21 = .ok (.getfield 72, 3) := dk_180 0 72 (dk_at dksX1_loadRose_0 21 rfl rfl)
theorem dX1_loadRose_24 : decode cX1_loadRose 24 = .ok (.invokevirtual 76, 3) := dk_182 0 76 (dk_at dksX1_loadRose_1 0 rfl rfl)
theorem dX1_loadRose_27 : decode cX1_loadRose 27 = .ok (.putfield 79, 3) := dk_181 0 79 (dk_at dksX1_loadRose_1 3 rfl rfl)
theorem dX1_loadRose_30 : decode cX1_loadRose 30 = .ok (.aload_n 0, 1) := dk_42 (dk_at dksX1_loadRose_1 6 rfl rfl)
theorem dX1_loadRose_31 : decode cX1_loadRose 31 = .ok (.getfield 85, 3) := dk_180 0 85 (dk_at dksX1_loadRose_1 7 rfl rfl)
theorem dX1_loadRose_34 : decode cX1_loadRose 34 = .ok (.invokevirtual 131, 3) := dk_182 0 131 (dk_at dksX1_loadRose_1 10 rfl rfl)
theorem dX1_loadRose_37 : decode cX1_loadRose 37 = .ok (.aload_n 0, 1) := dk_42 (dk_at dksX1_loadRose_1 13 rfl rfl)
theorem dX1_loadRose_38 : decode cX1_loadRose 38 = .ok (.aconst_null, 1) := dk_1 (dk_at dksX1_loadRose_1 14 rfl rfl)
theorem dX1_loadRose_39 : decode cX1_loadRose 39 = .ok (.putfield 134, 3) := dk_181 0 134 (dk_at dksX1_loadRose_1 15 rfl rfl)
theorem dX1_loadRose_42 : decode cX1_loadRose 42 = .ok (.aload_n 0, 1) := dk_42 (dk_at dksX1_loadRose_1 18 rfl rfl)
theorem dX1_loadRose_43 : decode cX1_loadRose 43 = .ok (.getfield 72, 3) := dk_180 0 72 (dk_at dksX1_loadRose_1 19 rfl rfl)
theorem dX1_loadRose_46 : decode cX1_loadRose 46 = .ok (.getfield 18, 3) := dk_180 0 18 (dk_at dksX1_loadRose_2 0 rfl rfl)
theorem dX1_loadRose_49 : decode cX1_loadRose 49 = .ok (.invokeinterface 24 1, 5) := by decide +kernel
theorem dX1_loadRose_54 : decode cX1_loadRose 54 = .ok (.istore_n 1, 1) := dk_60 (dk_at dksX1_loadRose_2 8 rfl rfl)
theorem dX1_loadRose_55 : decode cX1_loadRose 55 = .ok (.aload_n 0, 1) := dk_42 (dk_at dksX1_loadRose_2 9 rfl rfl)
theorem dX1_loadRose_56 : decode cX1_loadRose 56 = .ok (.iconst 0, 1) := dk_3 (dk_at dksX1_loadRose_2 10 rfl rfl)
theorem dX1_loadRose_57 : decode cX1_loadRose 57 = .ok (.putfield 98, 3) := dk_181 0 98 (dk_at dksX1_loadRose_2 11 rfl rfl)
theorem dX1_loadRose_60 : decode cX1_loadRose 60 = .ok (.iload_n 1, 1) := dk_27 (dk_at dksX1_loadRose_2 14 rfl rfl)
theorem dX1_loadRose_61 : decode cX1_loadRose 61 = .ok (.ireturn, 1) := dk_172 (dk_at dksX1_loadRose_2 15 rfl rfl)
theorem dX1_loadRose_62 : decode cX1_loadRose 62 = .ok (.astore_n 1, 1) := dk_76 (dk_at dksX1_loadRose_2 16 rfl rfl)
theorem dX1_loadRose_63 : decode cX1_loadRose 63 = .ok (.aload_n 0, 1) := dk_42 (dk_at dksX1_loadRose_2 17 rfl rfl)
theorem dX1_loadRose_64 : decode cX1_loadRose 64 = .ok (.aload_n 1, 1) := dk_43 (dk_at dksX1_loadRose_2 18 rfl rfl)
theorem dX1_loadRose_65 : decode cX1_loadRose 65 = .ok (.invokevirtual 137, 3) := dk_182 0 137 (dk_at dksX1_loadRose_2 19 rfl rfl)
theorem dX1_loadRose_68 : decode cX1_loadRose 68 = .ok (.istore_n 2, 1) := dk_61 (dk_at dksX1_loadRose_2 22 rfl rfl)
theorem dX1_loadRose_69 : decode cX1_loadRose 69 = .ok (.aload_n 0, 1) := dk_42 (dk_at dksX1_loadRose_2 23 rfl rfl)
theorem dX1_loadRose_70 : decode cX1_loadRose 70 = .ok (.iconst 0, 1) := dk_3 (dk_at dksX1_loadRose_3 0 rfl rfl)
theorem dX1_loadRose_71 : decode cX1_loadRose 71 = .ok (.putfield 98, 3) := dk_181 0 98 (dk_at dksX1_loadRose_3 1 rfl rfl)
theorem dX1_loadRose_74 : decode cX1_loadRose 74 = .ok (.iload_n 2, 1) := dk_28 (dk_at dksX1_loadRose_3 4 rfl rfl)
theorem dX1_loadRose_75 : decode cX1_loadRose 75 = .ok (.ireturn, 1) := dk_172 (dk_at dksX1_loadRose_3 5 rfl rfl)
theorem dX1_loadRose_76 : decode cX1_loadRose 76 = .ok (.astore_n 3, 1) := dk_78 (dk_at dksX1_loadRose_3 6 rfl rfl)
theorem dX1_loadRose_77 : decode cX1_loadRose 77 = .ok (.aload_n 0, 1) := dk_42 (dk_at dksX1_loadRose_3 7 rfl rfl)
theorem dX1_loadRose_78 : decode cX1_loadRose 78 = .ok (.iconst 0, 1) := dk_3 (dk_at dksX1_loadRose_3 8 rfl rfl)
theorem dX1_loadRose_79 : decode cX1_loadRose 79 = .ok (.putfield 98, 3) := dk_181 0 98 (dk_at dksX1_loadRose_3 9 rfl rfl)
theorem dX1_loadRose_82 : decode cX1_loadRose 82 = .ok (.aload_n 3, 1) := dk_45 (dk_at dksX1_loadRose_3 12 rfl rfl)
theorem dX1_loadRose_83 : decode cX1_loadRose 83 = .ok (.athrow, 1) := dk_191 (dk_at dksX1_loadRose_3 13 rfl rfl)
abbrev cX1_startsText : ByteArray := prog_1_method_16_code
def yX1_startsText : MethodName := ⟨RX1, "startsText", "()V"⟩
def dkwX1_startsText_0 : List UInt8 := [42, 3, 181, 0, 109, 42, 2, 181, 0, 64, 177]
abbrev dktX1_startsText_0 : List UInt8 := dkwX1_startsText_0 ++ []
theorem dksX1_startsText_0 : cX1_startsText.data.toList.drop 0 = dktX1_startsText_0 := by decide +kernel
theorem dX1_startsText_0 : decode cX1_startsText 0 = .ok (.aload_n 0, 1) := dk_42 (dk_at dksX1_startsText_0 0 rfl rfl)
theorem dX1_startsText_1 : decode cX1_startsText 1 = .ok (.iconst 0, 1) := dk_3 (dk_at dksX1_startsText_0 1 rfl rfl)
theorem dX1_startsText_2 : decode cX1_startsText 2 = .ok (.putfield 109, 3) := dk_181 0 109 (dk_at dksX1_startsText_0 2 rfl rfl)
theorem dX1_startsText_5 : decode cX1_startsText 5 = .ok (.aload_n 0, 1) := dk_42 (dk_at dksX1_startsText_0 5 rfl rfl)
theorem dX1_startsText_6 : decode cX1_startsText 6 = .ok (.iconst (-1), 1) := dk_2 (dk_at dksX1_startsText_0 6 rfl rfl)
theorem dX1_startsText_7 : decode cX1_startsText 7 = .ok (.putfield 64, 3) := dk_181 0 64 (dk_at dksX1_startsText_0 7 rfl rfl)
theorem dX1_startsText_10 : decode cX1_startsText 10 = .ok (.return_, 1) := dk_177 (dk_at dksX1_startsText_0 10 rfl rfl)
abbrev cX1_settingOf : ByteArray := prog_1_method_10_code
def yX1_settingOf : MethodName := ⟨RX1, "settingOf", "(Ljava/lang/String;)I"⟩
def dkwX1_settingOf_5 : List UInt8 := [3, 172, 4, 172, 5, 172, 2, 172]
abbrev dktX1_settingOf_5 : List UInt8 := dkwX1_settingOf_5 ++ []
def dkwX1_settingOf_4 : List UInt8 := [170, 0, 0, 0, 0, 0, 0, 34, 0, 0, 0, 0, 0, 0, 0, 2, 0, 0, 0, 28, 0, 0, 0, 30, 0, 0, 0, 32]
abbrev dktX1_settingOf_4 : List UInt8 := dkwX1_settingOf_4 ++ dktX1_settingOf_5
def dkwX1_settingOf_3 : List UInt8 := [61, 167, 0, 14, 43, 18, 55, 182, 0, 49, 153, 0, 5, 5, 61, 28]
abbrev dktX1_settingOf_3 : List UInt8 := dkwX1_settingOf_3 ++ dktX1_settingOf_4
def dkwX1_settingOf_2 : List UInt8 := [43, 18, 47, 182, 0, 49, 153, 0, 33, 3, 61, 167, 0, 28, 43, 18, 53, 182, 0, 49, 153, 0, 19, 4]
abbrev dktX1_settingOf_2 : List UInt8 := dkwX1_settingOf_2 ++ dktX1_settingOf_3
def dkwX1_settingOf_1 : List UInt8 := [171, 0, 0, 0, 0, 0, 0, 75, 0, 0, 0, 3, 0, 47, 215, 123, 0, 0, 0, 64, 0, 53, 106, 201, 0, 0, 0, 50, 0, 53, 150, 252, 0, 0, 0, 36]
abbrev dktX1_settingOf_1 : List UInt8 := dkwX1_settingOf_1 ++ dktX1_settingOf_2
def dkwX1_settingOf_0 : List UInt8 := [42, 76, 2, 61, 43, 182, 0, 42]
abbrev dktX1_settingOf_0 : List UInt8 := dkwX1_settingOf_0 ++ dktX1_settingOf_1
theorem dksX1_settingOf_0 : cX1_settingOf.data.toList.drop 0 = dktX1_settingOf_0 := by decide +kernel
theorem dksX1_settingOf_1 : cX1_settingOf.data.toList.drop 8 = dktX1_settingOf_1 := dk_seg dksX1_settingOf_0 8 rfl rfl
theorem dksX1_settingOf_2 : cX1_settingOf.data.toList.drop 44 = dktX1_settingOf_2 := dk_seg dksX1_settingOf_1 36 rfl rfl
theorem dksX1_settingOf_3 : cX1_settingOf.data.toList.drop 68 = dktX1_settingOf_3 := dk_seg dksX1_settingOf_2 24 rfl rfl
theorem dksX1_settingOf_4 : cX1_settingOf.data.toList.drop 84 = dktX1_settingOf_4 := dk_seg dksX1_settingOf_3 16 rfl rfl
theorem dksX1_settingOf_5 : cX1_settingOf.data.toList.drop 112 = dktX1_settingOf_5 := dk_seg dksX1_settingOf_4 28 rfl rfl
theorem dX1_settingOf_0 : decode cX1_settingOf 0 = .ok (.aload_n 0, 1) := dk_42 (dk_at dksX1_settingOf_0 0 rfl rfl)
theorem dX1_settingOf_1 : decode cX1_settingOf 1 = .ok (.astore_n 1, 1) := dk_76 (dk_at dksX1_settingOf_0 1 rfl rfl)
theorem dX1_settingOf_2 : decode cX1_settingOf 2 = .ok (.iconst (-1), 1) := dk_2 (dk_at dksX1_settingOf_0 2 rfl rfl)
theorem dX1_settingOf_3 : decode cX1_settingOf 3 = .ok (.istore_n 2, 1) := dk_61 (dk_at dksX1_settingOf_0 3 rfl rfl)
theorem dX1_settingOf_4 : decode cX1_settingOf 4 = .ok (.aload_n 1, 1) := dk_43 (dk_at dksX1_settingOf_0 4 rfl rfl)
theorem dX1_settingOf_5 : decode cX1_settingOf 5 = .ok (.invokevirtual 42, 3) := dk_182 0 42 (dk_at dksX1_settingOf_0 5 rfl rfl)
theorem dX1_settingOf_8 : decode cX1_settingOf 8 = .ok (.lookupswitch 75 #[(3135355, 64), (3500745, 50), (3512060, 36)], 36) := by decide +kernel
theorem dX1_settingOf_44 : decode cX1_settingOf 44 = .ok (.aload_n 1, 1) := dk_43 (dk_at dksX1_settingOf_2 0 rfl rfl)
theorem dX1_settingOf_45 : decode cX1_settingOf 45 = .ok (.ldc 47, 2) := dk_18 47 (dk_at dksX1_settingOf_2 1 rfl rfl)
theorem dX1_settingOf_47 : decode cX1_settingOf 47 = .ok (.invokevirtual 49, 3) := dk_182 0 49 (dk_at dksX1_settingOf_2 3 rfl rfl)
theorem dX1_settingOf_50 : decode cX1_settingOf 50 = .ok (.ifCond .eq 33, 3) := dk_153 0 33 (dk_at dksX1_settingOf_2 6 rfl rfl)
theorem dX1_settingOf_53 : decode cX1_settingOf 53 = .ok (.iconst 0, 1) := dk_3 (dk_at dksX1_settingOf_2 9 rfl rfl)
theorem dX1_settingOf_54 : decode cX1_settingOf 54 = .ok (.istore_n 2, 1) := dk_61 (dk_at dksX1_settingOf_2 10 rfl rfl)
theorem dX1_settingOf_55 : decode cX1_settingOf 55 = .ok (.goto 28, 3) := dk_167 0 28 (dk_at dksX1_settingOf_2 11 rfl rfl)
theorem dX1_settingOf_58 : decode cX1_settingOf 58 = .ok (.aload_n 1, 1) := dk_43 (dk_at dksX1_settingOf_2 14 rfl rfl)
theorem dX1_settingOf_59 : decode cX1_settingOf 59 = .ok (.ldc 53, 2) := dk_18 53 (dk_at dksX1_settingOf_2 15 rfl rfl)
theorem dX1_settingOf_61 : decode cX1_settingOf 61 = .ok (.invokevirtual 49, 3) := dk_182 0 49 (dk_at dksX1_settingOf_2 17 rfl rfl)
theorem dX1_settingOf_64 : decode cX1_settingOf 64 = .ok (.ifCond .eq 19, 3) := dk_153 0 19 (dk_at dksX1_settingOf_2 20 rfl rfl)
theorem dX1_settingOf_67 : decode cX1_settingOf 67 = .ok (.iconst 1, 1) := dk_4 (dk_at dksX1_settingOf_2 23 rfl rfl)
theorem dX1_settingOf_68 : decode cX1_settingOf 68 = .ok (.istore_n 2, 1) := dk_61 (dk_at dksX1_settingOf_3 0 rfl rfl)
theorem dX1_settingOf_69 : decode cX1_settingOf 69 = .ok (.goto 14, 3) := dk_167 0 14 (dk_at dksX1_settingOf_3 1 rfl rfl)
theorem dX1_settingOf_72 : decode cX1_settingOf 72 = .ok (.aload_n 1, 1) := dk_43 (dk_at dksX1_settingOf_3 4 rfl rfl)
theorem dX1_settingOf_73 : decode cX1_settingOf 73 = .ok (.ldc 55, 2) := dk_18 55 (dk_at dksX1_settingOf_3 5 rfl rfl)
theorem dX1_settingOf_75 : decode cX1_settingOf 75 = .ok (.invokevirtual 49, 3) := dk_182 0 49 (dk_at dksX1_settingOf_3 7 rfl rfl)
theorem dX1_settingOf_78 : decode cX1_settingOf 78 = .ok (.ifCond .eq 5, 3) := dk_153 0 5 (dk_at dksX1_settingOf_3 10 rfl rfl)
theorem dX1_settingOf_81 : decode cX1_settingOf 81 = .ok (.iconst 2, 1) := dk_5 (dk_at dksX1_settingOf_3 13 rfl rfl)
theorem dX1_settingOf_82 : decode cX1_settingOf 82 = .ok (.istore_n 2, 1) := dk_61 (dk_at dksX1_settingOf_3 14 rfl rfl)
theorem dX1_settingOf_83 : decode cX1_settingOf 83 = .ok (.iload_n 2, 1) := dk_28 (dk_at dksX1_settingOf_3 15 rfl rfl)
theorem dX1_settingOf_84 : decode cX1_settingOf 84 = .ok (.tableswitch 34 0 2 #[28, 30, 32], 28) := by decide +kernel
theorem dX1_settingOf_112 : decode cX1_settingOf 112 = .ok (.iconst 0, 1) := dk_3 (dk_at dksX1_settingOf_5 0 rfl rfl)
theorem dX1_settingOf_113 : decode cX1_settingOf 113 = .ok (.ireturn, 1) := dk_172 (dk_at dksX1_settingOf_5 1 rfl rfl)
theorem dX1_settingOf_114 : decode cX1_settingOf 114 = .ok (.iconst 1, 1) := dk_4 (dk_at dksX1_settingOf_5 2 rfl rfl)
theorem dX1_settingOf_115 : decode cX1_settingOf 115 = .ok (.ireturn, 1) := dk_172 (dk_at dksX1_settingOf_5 3 rfl rfl)
theorem dX1_settingOf_116 : decode cX1_settingOf 116 = .ok (.iconst 2, 1) := dk_5 (dk_at dksX1_settingOf_5 4 rfl rfl)
theorem dX1_settingOf_117 : decode cX1_settingOf 117 = .ok (.ireturn, 1) := dk_172 (dk_at dksX1_settingOf_5 5 rfl rfl)
theorem dX1_settingOf_118 : decode cX1_settingOf 118 = .ok (.iconst (-1), 1) := dk_2 (dk_at dksX1_settingOf_5 6 rfl rfl)
theorem dX1_settingOf_119 : decode cX1_settingOf 119 = .ok (.ireturn, 1) := dk_172 (dk_at dksX1_settingOf_5 7 rfl rfl)
abbrev cX1_bound : ByteArray := prog_1_method_7_code
def yX1_bound : MethodName := ⟨RX1, "bound", "(I)I"⟩
def dkwX1_bound_0 : List UInt8 := [26, 154, 0, 7, 5, 167, 0, 5, 16, 50, 172]
abbrev dktX1_bound_0 : List UInt8 := dkwX1_bound_0 ++ []
theorem dksX1_bound_0 : cX1_bound.data.toList.drop 0 = dktX1_bound_0 := by decide +kernel
theorem dX1_bound_0 : decode cX1_bound 0 = .ok (.iload_n 0, 1) := dk_26 (dk_at dksX1_bound_0 0 rfl rfl)
theorem dX1_bound_1 : decode cX1_bound 1 = .ok (.ifCond .ne 7, 3) := dk_154 0 7 (dk_at dksX1_bound_0 1 rfl rfl)
theorem dX1_bound_4 : decode cX1_bound 4 = .ok (.iconst 2, 1) := dk_5 (dk_at dksX1_bound_0 4 rfl rfl)
theorem dX1_bound_5 : decode cX1_bound 5 = .ok (.goto 5, 3) := dk_167 0 5 (dk_at dksX1_bound_0 5 rfl rfl)
theorem dX1_bound_8 : decode cX1_bound 8 = .ok (.bipush 50, 2) := dk_16 50 (dk_at dksX1_bound_0 8 rfl rfl)
theorem dX1_bound_10 : decode cX1_bound 10 = .ok (.ireturn, 1) := dk_172 (dk_at dksX1_bound_0 10 rfl rfl)
abbrev cX1_fails : ByteArray := prog_1_method_17_code
def yX1_fails : MethodName := ⟨RX1, "fails", "(LRoseProverbs$ParseException;)I"⟩
def dkwX1_fails_0 : List UInt8 := [42, 43, 180, 0, 112, 181, 0, 109, 42, 43, 180, 0, 117, 181, 0, 64, 2, 172]
abbrev dktX1_fails_0 : List UInt8 := dkwX1_fails_0 ++ []
theorem dksX1_fails_0 : cX1_fails.data.toList.drop 0 = dktX1_fails_0 := by decide +kernel
theorem dX1_fails_0 : decode cX1_fails 0 = .ok (.aload_n 0, 1) := dk_42 (dk_at dksX1_fails_0 0 rfl rfl)
theorem dX1_fails_1 : decode cX1_fails 1 = .ok (.aload_n 1, 1) := dk_43 (dk_at dksX1_fails_0 1 rfl rfl)
theorem dX1_fails_2 : decode cX1_fails 2 = .ok (.getfield 112, 3) := dk_180 0 112 (dk_at dksX1_fails_0 2 rfl rfl)
theorem dX1_fails_5 : decode cX1_fails 5 = .ok (.putfield 109, 3) := dk_181 0 109 (dk_at dksX1_fails_0 5 rfl rfl)
theorem dX1_fails_8 : decode cX1_fails 8 = .ok (.aload_n 0, 1) := dk_42 (dk_at dksX1_fails_0 8 rfl rfl)
theorem dX1_fails_9 : decode cX1_fails 9 = .ok (.aload_n 1, 1) := dk_43 (dk_at dksX1_fails_0 9 rfl rfl)
theorem dX1_fails_10 : decode cX1_fails 10 = .ok (.getfield 117, 3) := dk_180 0 117 (dk_at dksX1_fails_0 10 rfl rfl)
theorem dX1_fails_13 : decode cX1_fails 13 = .ok (.putfield 64, 3) := dk_181 0 64 (dk_at dksX1_fails_0 13 rfl rfl)
theorem dX1_fails_16 : decode cX1_fails 16 = .ok (.iconst (-1), 1) := dk_2 (dk_at dksX1_fails_0 16 rfl rfl)
theorem dX1_fails_17 : decode cX1_fails 17 = .ok (.ireturn, 1) := dk_172 (dk_at dksX1_fails_0 17 rfl rfl)
abbrev cX1_playScript : ByteArray := prog_1_method_19_code
def yX1_playScript : MethodName := ⟨RX1, "playScript", "()I"⟩
def dkwX1_playScript_2 : List UInt8 := [181, 0, 98, 45, 191]
abbrev dktX1_playScript_2 : List UInt8 := dkwX1_playScript_2 ++ []
def dkwX1_playScript_1 : List UInt8 := [181, 0, 98, 27, 172, 76, 42, 43, 182, 0, 137, 61, 42, 3, 181, 0, 98, 28, 172, 78, 42, 3]
abbrev dktX1_playScript_1 : List UInt8 := dkwX1_playScript_1 ++ dktX1_playScript_2
def dkwX1_playScript_0 : List UInt8 := [42, 182, 0, 120, 42, 187, 0, 141, 89, 42, 183, 0, 143, 182, 0, 144, 182, 0, 147, 60, 42, 3]
abbrev dktX1_playScript_0 : List UInt8 := dkwX1_playScript_0 ++ dktX1_playScript_1
theorem dksX1_playScript_0 : cX1_playScript.data.toList.drop 0 = dktX1_playScript_0 := by decide +kernel
theorem dksX1_playScript_1 : cX1_playScript.data.toList.drop 22 = dktX1_playScript_1 := dk_seg dksX1_playScript_0 22 rfl rfl
theorem dksX1_playScript_2 : cX1_playScript.data.toList.drop 44 = dktX1_playScript_2 := dk_seg dksX1_playScript_1 22 rfl rfl
theorem dX1_playScript_0 : decode cX1_playScript 0 = .ok (.aload_n 0, 1) := dk_42 (dk_at dksX1_playScript_0 0 rfl rfl)
theorem dX1_playScript_1 : decode cX1_playScript 1 = .ok (.invokevirtual 120, 3) := dk_182 0 120 (dk_at dksX1_playScript_0 1 rfl rfl)
theorem dX1_playScript_4 : decode cX1_playScript 4 = .ok (.aload_n 0, 1) := dk_42 (dk_at dksX1_playScript_0 4 rfl rfl)
theorem dX1_playScript_5 : decode cX1_playScript 5 = .ok (.new 141, 3) := dk_187 0 141 (dk_at dksX1_playScript_0 5 rfl rfl)
theorem dX1_playScript_8 : decode cX1_playScript 8 = .ok (.dup, 1) := dk_89 (dk_at dksX1_playScript_0 8 rfl rfl)
theorem dX1_playScript_9 : decode cX1_playScript 9 = .ok (.aload_n 0, 1) := dk_42 (dk_at dksX1_playScript_0 9 rfl rfl)
theorem dX1_playScript_10 : decode cX1_playScript 10 = .ok (.invokespecial 143, 3) := dk_183 0 143 (dk_at dksX1_playScript_0 10 rfl rfl)
theorem dX1_playScript_13 : decode cX1_playScript 13 = .ok (.invokevirtual 144, 3) := dk_182 0 144 (dk_at dksX1_playScript_0 13 rfl rfl)
theorem dX1_playScript_16 : decode cX1_playScript 16 = .ok (.invokevirtual 147, 3) := dk_182 0 147 (dk_at dksX1_playScript_0 16 rfl rfl)
theorem dX1_playScript_19 : decode cX1_playScript 19 = .ok (.istore_n 1, 1) := dk_60 (dk_at dksX1_playScript_0 19 rfl rfl)
theorem dX1_playScript_20 : decode cX1_playScript 20 = .ok (.aload_n 0, 1) := dk_42 (dk_at dksX1_playScript_0 20 rfl rfl)
theorem dX1_playScript_21 : decode cX1_playScript 21 = .ok (.iconst 0, 1) := dk_3 (dk_at dksX1_playScript_0 21 rfl rfl)
theorem dX1_playScript_22 : decode cX1_playScript 22 = .ok (.putfield 98, 3) := dk_181 0 98 (dk_at dksX1_playScript_1 0 rfl rfl)
theorem dX1_playScript_25 : decode cX1_playScript 25 = .ok (.iload_n 1, 1) := dk_27 (dk_at dksX1_playScript_1 3 rfl rfl)
theorem dX1_playScript_26 : decode cX1_playScript 26 = .ok (.ireturn, 1) := dk_172 (dk_at dksX1_playScript_1 4 rfl rfl)
theorem dX1_playScript_27 : decode cX1_playScript 27 = .ok (.astore_n 1, 1) := dk_76 (dk_at dksX1_playScript_1 5 rfl rfl)
theorem dX1_playScript_28 : decode cX1_playScript 28 = .ok (.aload_n 0, 1) := dk_42 (dk_at dksX1_playScript_1 6 rfl rfl)
theorem dX1_playScript_29 : decode cX1_playScript 29 = .ok (.aload_n 1, 1) := dk_43 (dk_at dksX1_playScript_1 7 rfl rfl)
theorem dX1_playScript_30 : decode cX1_playScript 30 = .ok (.invokevirtual 137, 3) := dk_182 0 137 (dk_at dksX1_playScript_1 8 rfl rfl)
theorem dX1_playScript_33 : decode cX1_playScript 33 = .ok (.istore_n 2, 1) := dk_61 (dk_at dksX1_playScript_1 11 rfl rfl)
theorem dX1_playScript_34 : decode cX1_playScript 34 = .ok (.aload_n 0, 1) := dk_42 (dk_at dksX1_playScript_1 12 rfl rfl)
theorem dX1_playScript_35 : decode cX1_playScript 35 = .ok (.iconst 0, 1) := dk_3 (dk_at dksX1_playScript_1 13 rfl rfl)
theorem dX1_playScript_36 : decode cX1_playScript 36 = .ok (.putfield 98, 3) := dk_181 0 98 (dk_at dksX1_playScript_1 14 rfl rfl)
theorem dX1_playScript_39 : decode cX1_playScript 39 = .ok (.iload_n 2, 1) := dk_28 (dk_at dksX1_playScript_1 17 rfl rfl)
theorem dX1_playScript_40 : decode cX1_playScript 40 = .ok (.ireturn, 1) := dk_172 (dk_at dksX1_playScript_1 18 rfl rfl)
theorem dX1_playScript_41 : decode cX1_playScript 41 = .ok (.astore_n 3, 1) := dk_78 (dk_at dksX1_playScript_1 19 rfl rfl)
theorem dX1_playScript_42 : decode cX1_playScript 42 = .ok (.aload_n 0, 1) := dk_42 (dk_at dksX1_playScript_1 20 rfl rfl)
theorem dX1_playScript_43 : decode cX1_playScript 43 = .ok (.iconst 0, 1) := dk_3 (dk_at dksX1_playScript_1 21 rfl rfl)
theorem dX1_playScript_44 : decode cX1_playScript 44 = .ok (.putfield 98, 3) := dk_181 0 98 (dk_at dksX1_playScript_2 0 rfl rfl)
theorem dX1_playScript_47 : decode cX1_playScript 47 = .ok (.aload_n 3, 1) := dk_45 (dk_at dksX1_playScript_2 3 rfl rfl)
theorem dX1_playScript_48 : decode cX1_playScript 48 = .ok (.athrow, 1) := dk_191 (dk_at dksX1_playScript_2 4 rfl rfl)
abbrev cX1_plays : ByteArray := prog_1_method_20_code
def yX1_plays : MethodName := ⟨RX1, "plays", "(Ljava/util/List;)I"⟩
def dkwX1_plays_1 : List UInt8 := [192, 0, 158, 44, 182, 0, 160, 153, 0, 9, 132, 3, 1, 167, 255, 226, 29, 172]
abbrev dktX1_plays_1 : List UInt8 := dkwX1_plays_1 ++ []
def dkwX1_plays_0 : List UInt8 := [42, 182, 0, 151, 77, 3, 62, 29, 43, 185, 0, 24, 1, 0, 162, 0, 26, 43, 29, 185, 0, 154, 2, 0]
abbrev dktX1_plays_0 : List UInt8 := dkwX1_plays_0 ++ dktX1_plays_1
theorem dksX1_plays_0 : cX1_plays.data.toList.drop 0 = dktX1_plays_0 := by decide +kernel
theorem dksX1_plays_1 : cX1_plays.data.toList.drop 24 = dktX1_plays_1 := dk_seg dksX1_plays_0 24 rfl rfl
theorem dX1_plays_0 : decode cX1_plays 0 = .ok (.aload_n 0, 1) := dk_42 (dk_at dksX1_plays_0 0 rfl rfl)
theorem dX1_plays_1 : decode cX1_plays 1 = .ok (.invokevirtual 151, 3) := dk_182 0 151 (dk_at dksX1_plays_0 1 rfl rfl)
theorem dX1_plays_4 : decode cX1_plays 4 = .ok (.astore_n 2, 1) := dk_77 (dk_at dksX1_plays_0 4 rfl rfl)
theorem dX1_plays_5 : decode cX1_plays 5 = .ok (.iconst 0, 1) := dk_3 (dk_at dksX1_plays_0 5 rfl rfl)
theorem dX1_plays_6 : decode cX1_plays 6 = .ok (.istore_n 3, 1) := dk_62 (dk_at dksX1_plays_0 6 rfl rfl)
theorem dX1_plays_7 : decode cX1_plays 7 = .ok (.iload_n 3, 1) := dk_29 (dk_at dksX1_plays_0 7 rfl rfl)
theorem dX1_plays_8 : decode cX1_plays 8 = .ok (.aload_n 1, 1) := dk_43 (dk_at dksX1_plays_0 8 rfl rfl)
theorem dX1_plays_9 : decode cX1_plays 9 = .ok (.invokeinterface 24 1, 5) := by decide +kernel
theorem dX1_plays_14 : decode cX1_plays 14 = .ok (.if_icmp .ge 26, 3) := dk_162 0 26 (dk_at dksX1_plays_0 14 rfl rfl)
theorem dX1_plays_17 : decode cX1_plays 17 = .ok (.aload_n 1, 1) := dk_43 (dk_at dksX1_plays_0 17 rfl rfl)
theorem dX1_plays_18 : decode cX1_plays 18 = .ok (.iload_n 3, 1) := dk_29 (dk_at dksX1_plays_0 18 rfl rfl)
theorem dX1_plays_19 : decode cX1_plays 19 = .ok (.invokeinterface 154 2, 5) := by decide +kernel
theorem dX1_plays_24 : decode cX1_plays 24 = .ok (.checkcast 158, 3) := dk_192 0 158 (dk_at dksX1_plays_1 0 rfl rfl)
theorem dX1_plays_27 : decode cX1_plays 27 = .ok (.aload_n 2, 1) := dk_44 (dk_at dksX1_plays_1 3 rfl rfl)
theorem dX1_plays_28 : decode cX1_plays 28 = .ok (.invokevirtual 160, 3) := dk_182 0 160 (dk_at dksX1_plays_1 4 rfl rfl)
theorem dX1_plays_31 : decode cX1_plays 31 = .ok (.ifCond .eq 9, 3) := dk_153 0 9 (dk_at dksX1_plays_1 7 rfl rfl)
theorem dX1_plays_34 : decode cX1_plays 34 = .ok (.iinc 3 1, 3) := dk_132 3 1 (dk_at dksX1_plays_1 10 rfl rfl)
theorem dX1_plays_37 : decode cX1_plays 37 = .ok (.goto (-30), 3) := dk_167 255 226 (dk_at dksX1_plays_1 13 rfl rfl)
theorem dX1_plays_40 : decode cX1_plays 40 = .ok (.iload_n 3, 1) := dk_29 (dk_at dksX1_plays_1 16 rfl rfl)
theorem dX1_plays_41 : decode cX1_plays 41 = .ok (.ireturn, 1) := dk_172 (dk_at dksX1_plays_1 17 rfl rfl)
abbrev cX1_changed : ByteArray := prog_1_method_69_code
def yX1_changed : MethodName := ⟨RX1, "changed", "()LRoseProverbs$Rose;"⟩
def dkwX1_changed_1 : List UInt8 := [42, 180, 0, 72, 182, 1, 185, 42, 42, 180, 0, 72, 182, 0, 76, 181, 0, 72, 42, 180, 0, 72, 176]
abbrev dktX1_changed_1 : List UInt8 := dkwX1_changed_1 ++ []
def dkwX1_changed_0 : List UInt8 := [42, 180, 0, 85, 182, 0, 234, 16, 8, 160, 0, 11, 42, 180, 0, 85, 182, 1, 182, 87, 42, 180, 0, 85]
abbrev dktX1_changed_0 : List UInt8 := dkwX1_changed_0 ++ dktX1_changed_1
theorem dksX1_changed_0 : cX1_changed.data.toList.drop 0 = dktX1_changed_0 := by decide +kernel
theorem dksX1_changed_1 : cX1_changed.data.toList.drop 24 = dktX1_changed_1 := dk_seg dksX1_changed_0 24 rfl rfl
theorem dX1_changed_0 : decode cX1_changed 0 = .ok (.aload_n 0, 1) := dk_42 (dk_at dksX1_changed_0 0 rfl rfl)
theorem dX1_changed_1 : decode cX1_changed 1 = .ok (.getfield 85, 3) := dk_180 0 85 (dk_at dksX1_changed_0 1 rfl rfl)
theorem dX1_changed_4 : decode cX1_changed 4 = .ok (.invokevirtual 234, 3) := dk_182 0 234 (dk_at dksX1_changed_0 4 rfl rfl)
theorem dX1_changed_7 : decode cX1_changed 7 = .ok (.bipush 8, 2) := dk_16 8 (dk_at dksX1_changed_0 7 rfl rfl)
theorem dX1_changed_9 : decode cX1_changed 9 = .ok (.if_icmp .ne 11, 3) := dk_160 0 11 (dk_at dksX1_changed_0 9 rfl rfl)
theorem dX1_changed_12 : decode cX1_changed 12 = .ok (.aload_n 0, 1) := dk_42 (dk_at dksX1_changed_0 12 rfl rfl)
theorem dX1_changed_13 : decode cX1_changed 13 = .ok (.getfield 85, 3) := dk_180 0 85 (dk_at dksX1_changed_0 13 rfl rfl)
theorem dX1_changed_16 : decode cX1_changed 16 = .ok (.invokevirtual 438, 3) := dk_182 1 182 (dk_at dksX1_changed_0 16 rfl rfl)
theorem dX1_changed_19 : decode cX1_changed 19 = .ok (.pop, 1) := dk_87 (dk_at dksX1_changed_0 19 rfl rfl)
theorem dX1_changed_20 : decode cX1_changed 20 = .ok (.aload_n 0, 1) := dk_42 (dk_at dksX1_changed_0 20 rfl rfl)
theorem dX1_changed_21 : decode cX1_changed 21 = .ok (.getfield 85, 3) := dk_180 0 85 (dk_at dksX1_changed_0 21 rfl rfl)
theorem dX1_changed_24 : decode cX1_changed 24 = .ok (.aload_n 0, 1) := dk_42 (dk_at dksX1_changed_1 0 rfl rfl)
theorem dX1_changed_25 : decode cX1_changed 25 = .ok (.getfield 72, 3) := dk_180 0 72 (dk_at dksX1_changed_1 1 rfl rfl)
theorem dX1_changed_28 : decode cX1_changed 28 = .ok (.invokevirtual 441, 3) := dk_182 1 185 (dk_at dksX1_changed_1 4 rfl rfl)
theorem dX1_changed_31 : decode cX1_changed 31 = .ok (.aload_n 0, 1) := dk_42 (dk_at dksX1_changed_1 7 rfl rfl)
theorem dX1_changed_32 : decode cX1_changed 32 = .ok (.aload_n 0, 1) := dk_42 (dk_at dksX1_changed_1 8 rfl rfl)
theorem dX1_changed_33 : decode cX1_changed 33 = .ok (.getfield 72, 3) := dk_180 0 72 (dk_at dksX1_changed_1 9 rfl rfl)
theorem dX1_changed_36 : decode cX1_changed 36 = .ok (.invokevirtual 76, 3) := dk_182 0 76 (dk_at dksX1_changed_1 12 rfl rfl)
theorem dX1_changed_39 : decode cX1_changed 39 = .ok (.putfield 72, 3) := dk_181 0 72 (dk_at dksX1_changed_1 15 rfl rfl)
theorem dX1_changed_42 : decode cX1_changed 42 = .ok (.aload_n 0, 1) := dk_42 (dk_at dksX1_changed_1 18 rfl rfl)
theorem dX1_changed_43 : decode cX1_changed 43 = .ok (.getfield 72, 3) := dk_180 0 72 (dk_at dksX1_changed_1 19 rfl rfl)
theorem dX1_changed_46 : decode cX1_changed 46 = .ok (.areturn, 1) := dk_176 (dk_at dksX1_changed_1 22 rfl rfl)
abbrev cX1_bit : ByteArray := prog_1_method_6_code
def yX1_bit : MethodName := ⟨RX1, "bit", "(Z)I"⟩
def dkwX1_bit_0 : List UInt8 := [26, 153, 0, 7, 4, 167, 0, 4, 3, 172]
abbrev dktX1_bit_0 : List UInt8 := dkwX1_bit_0 ++ []
theorem dksX1_bit_0 : cX1_bit.data.toList.drop 0 = dktX1_bit_0 := by decide +kernel
theorem dX1_bit_0 : decode cX1_bit 0 = .ok (.iload_n 0, 1) := dk_26 (dk_at dksX1_bit_0 0 rfl rfl)
theorem dX1_bit_1 : decode cX1_bit 1 = .ok (.ifCond .eq 7, 3) := dk_153 0 7 (dk_at dksX1_bit_0 1 rfl rfl)
theorem dX1_bit_4 : decode cX1_bit 4 = .ok (.iconst 1, 1) := dk_4 (dk_at dksX1_bit_0 4 rfl rfl)
theorem dX1_bit_5 : decode cX1_bit 5 = .ok (.goto 4, 3) := dk_167 0 4 (dk_at dksX1_bit_0 5 rfl rfl)
theorem dX1_bit_8 : decode cX1_bit 8 = .ok (.iconst 0, 1) := dk_3 (dk_at dksX1_bit_0 8 rfl rfl)
theorem dX1_bit_9 : decode cX1_bit 9 = .ok (.ireturn, 1) := dk_172 (dk_at dksX1_bit_0 9 rfl rfl)
abbrev cX1_mayCome : ByteArray := prog_1_method_8_code
def yX1_mayCome : MethodName := ⟨RX1, "mayCome", "(LRoseProverbs$Rose;[I)Z"⟩
def dkwX1_mayCome_1 : List UInt8 := [167, 0, 4, 3, 172]
abbrev dktX1_mayCome_1 : List UInt8 := dkwX1_mayCome_1 ++ []
def dkwX1_mayCome_0 : List UInt8 := [42, 180, 0, 18, 185, 0, 24, 1, 0, 16, 24, 162, 0, 15, 42, 43, 182, 0, 30, 154, 0, 7, 4]
abbrev dktX1_mayCome_0 : List UInt8 := dkwX1_mayCome_0 ++ dktX1_mayCome_1
theorem dksX1_mayCome_0 : cX1_mayCome.data.toList.drop 0 = dktX1_mayCome_0 := by decide +kernel
theorem dksX1_mayCome_1 : cX1_mayCome.data.toList.drop 23 = dktX1_mayCome_1 := dk_seg dksX1_mayCome_0 23 rfl rfl
theorem dX1_mayCome_0 : decode cX1_mayCome 0 = .ok (.aload_n 0, 1) := dk_42 (dk_at dksX1_mayCome_0 0 rfl rfl)
theorem dX1_mayCome_1 : decode cX1_mayCome 1 = .ok (.getfield 18, 3) := dk_180 0 18 (dk_at dksX1_mayCome_0 1 rfl rfl)
theorem dX1_mayCome_4 : decode cX1_mayCome 4 = .ok (.invokeinterface 24 1, 5) := by decide +kernel
theorem dX1_mayCome_9 : decode cX1_mayCome 9 = .ok (.bipush 24, 2) := dk_16 24 (dk_at dksX1_mayCome_0 9 rfl rfl)
theorem dX1_mayCome_11 : decode cX1_mayCome 11 = .ok (.if_icmp .ge 15, 3) := dk_162 0 15 (dk_at dksX1_mayCome_0 11 rfl rfl)
theorem dX1_mayCome_14 : decode cX1_mayCome 14 = .ok (.aload_n 0, 1) := dk_42 (dk_at dksX1_mayCome_0 14 rfl rfl)
theorem dX1_mayCome_15 : decode cX1_mayCome 15 = .ok (.aload_n 1, 1) := dk_43 (dk_at dksX1_mayCome_0 15 rfl rfl)
theorem dX1_mayCome_16 : decode cX1_mayCome 16 = .ok (.invokevirtual 30, 3) := dk_182 0 30 (dk_at dksX1_mayCome_0 16 rfl rfl)
theorem dX1_mayCome_19 : decode cX1_mayCome 19 = .ok (.ifCond .ne 7, 3) := dk_154 0 7 (dk_at dksX1_mayCome_0 19 rfl rfl)
theorem dX1_mayCome_22 : decode cX1_mayCome 22 = .ok (.iconst 1, 1) := dk_4 (dk_at dksX1_mayCome_0 22 rfl rfl)
theorem dX1_mayCome_23 : decode cX1_mayCome 23 = .ok (.goto 4, 3) := dk_167 0 4 (dk_at dksX1_mayCome_1 0 rfl rfl)
theorem dX1_mayCome_26 : decode cX1_mayCome 26 = .ok (.iconst 0, 1) := dk_3 (dk_at dksX1_mayCome_1 3 rfl rfl)
theorem dX1_mayCome_27 : decode cX1_mayCome 27 = .ok (.ireturn, 1) := dk_172 (dk_at dksX1_mayCome_1 4 rfl rfl)
abbrev cX1_comes : ByteArray := prog_1_method_9_code
def yX1_comes : MethodName := ⟨RX1, "comes", "(LRoseProverbs$Rose;[I)I"⟩
def dkwX1_comes_0 : List UInt8 := [42, 180, 0, 34, 16, 6, 92, 46, 4, 96, 79, 42, 43, 182, 0, 38, 172]
abbrev dktX1_comes_0 : List UInt8 := dkwX1_comes_0 ++ []
theorem dksX1_comes_0 : cX1_comes.data.toList.drop 0 = dktX1_comes_0 := by decide +kernel
theorem dX1_comes_0 : decode cX1_comes 0 = .ok (.aload_n 0, 1) := dk_42 (dk_at dksX1_comes_0 0 rfl rfl)
theorem dX1_comes_1 : decode cX1_comes 1 = .ok (.getfield 34, 3) := dk_180 0 34 (dk_at dksX1_comes_0 1 rfl rfl)
theorem dX1_comes_4 : decode cX1_comes 4 = .ok (.bipush 6, 2) := dk_16 6 (dk_at dksX1_comes_0 4 rfl rfl)
theorem dX1_comes_6 : decode cX1_comes 6 = .ok (.dup2, 1) := dk_92 (dk_at dksX1_comes_0 6 rfl rfl)
theorem dX1_comes_7 : decode cX1_comes 7 = .ok (.iaload, 1) := dk_46 (dk_at dksX1_comes_0 7 rfl rfl)
theorem dX1_comes_8 : decode cX1_comes 8 = .ok (.iconst 1, 1) := dk_4 (dk_at dksX1_comes_0 8 rfl rfl)
theorem dX1_comes_9 : decode cX1_comes 9 = .ok (.iadd, 1) := dk_96 (dk_at dksX1_comes_0 9 rfl rfl)
theorem dX1_comes_10 : decode cX1_comes 10 = .ok (.iastore, 1) := dk_79 (dk_at dksX1_comes_0 10 rfl rfl)
theorem dX1_comes_11 : decode cX1_comes 11 = .ok (.aload_n 0, 1) := dk_42 (dk_at dksX1_comes_0 11 rfl rfl)
theorem dX1_comes_12 : decode cX1_comes 12 = .ok (.aload_n 1, 1) := dk_43 (dk_at dksX1_comes_0 12 rfl rfl)
theorem dX1_comes_13 : decode cX1_comes 13 = .ok (.invokevirtual 38, 3) := dk_182 0 38 (dk_at dksX1_comes_0 13 rfl rfl)
theorem dX1_comes_16 : decode cX1_comes 16 = .ok (.ireturn, 1) := dk_172 (dk_at dksX1_comes_0 16 rfl rfl)
abbrev cX1_errorCode : ByteArray := prog_1_method_21_code
def yX1_errorCode : MethodName := ⟨RX1, "errorCode", "()I"⟩
theorem dX1_errorCode_0 : decode cX1_errorCode 0 = .ok (.aload_n 0, 1) := by decide +kernel
theorem dX1_errorCode_1 : decode cX1_errorCode 1 = .ok (.getfield 109, 3) := by decide +kernel
theorem dX1_errorCode_4 : decode cX1_errorCode 4 = .ok (.ireturn, 1) := by decide +kernel
abbrev cX1_errorOffset : ByteArray := prog_1_method_22_code
def yX1_errorOffset : MethodName := ⟨RX1, "errorOffset", "()I"⟩
theorem dX1_errorOffset_0 : decode cX1_errorOffset 0 = .ok (.aload_n 0, 1) := by decide +kernel
theorem dX1_errorOffset_1 : decode cX1_errorOffset 1 = .ok (.getfield 64, 3) := by decide +kernel
theorem dX1_errorOffset_4 : decode cX1_errorOffset 4 = .ok (.ireturn, 1) := by decide +kernel
abbrev cX1_byWeight : ByteArray := prog_1_method_47_code
def yX1_byWeight : MethodName := ⟨RX1, "byWeight", "(I)I"⟩
def dkwX1_byWeight_5 : List UInt8 := [172]
abbrev dktX1_byWeight_5 : List UInt8 := dkwX1_byWeight_5 ++ []
def dkwX1_byWeight_4 : List UInt8 := [182, 1, 102, 192, 0, 178, 58, 4, 132, 3, 1, 167, 255, 239, 44, 182, 1, 105, 192, 0, 178, 180, 1, 45]
abbrev dktX1_byWeight_4 : List UInt8 := dkwX1_byWeight_4 ++ dktX1_byWeight_5
def dkwX1_byWeight_3 : List UInt8 := [192, 0, 178, 58, 4, 44, 25, 4, 182, 1, 99, 54, 5, 167, 255, 228, 3, 62, 29, 27, 162, 0, 18, 44]
abbrev dktX1_byWeight_3 : List UInt8 := dkwX1_byWeight_3 ++ dktX1_byWeight_4
def dkwX1_byWeight_2 : List UInt8 := [182, 1, 92, 185, 1, 96, 1, 0, 78, 45, 185, 0, 168, 1, 0, 153, 0, 25, 45, 185, 0, 174, 1, 0]
abbrev dktX1_byWeight_2 : List UInt8 := dkwX1_byWeight_2 ++ dktX1_byWeight_3
def dkwX1_byWeight_1 : List UInt8 := [187, 1, 84, 89, 187, 1, 86, 89, 183, 1, 88, 183, 1, 89, 77, 42, 180, 0, 72, 180, 0, 210]
abbrev dktX1_byWeight_1 : List UInt8 := dkwX1_byWeight_1 ++ dktX1_byWeight_2
def dkwX1_byWeight_0 : List UInt8 := [27, 133, 9, 42, 180, 0, 72, 180, 0, 210, 182, 0, 214, 4, 100, 133, 184, 0, 105, 154, 0, 5, 2, 172]
abbrev dktX1_byWeight_0 : List UInt8 := dkwX1_byWeight_0 ++ dktX1_byWeight_1
theorem dksX1_byWeight_0 : cX1_byWeight.data.toList.drop 0 = dktX1_byWeight_0 := by decide +kernel
theorem dksX1_byWeight_1 : cX1_byWeight.data.toList.drop 24 = dktX1_byWeight_1 := dk_seg dksX1_byWeight_0 24 rfl rfl
theorem dksX1_byWeight_2 : cX1_byWeight.data.toList.drop 46 = dktX1_byWeight_2 := dk_seg dksX1_byWeight_1 22 rfl rfl
theorem dksX1_byWeight_3 : cX1_byWeight.data.toList.drop 70 = dktX1_byWeight_3 := dk_seg dksX1_byWeight_2 24 rfl rfl
theorem dksX1_byWeight_4 : cX1_byWeight.data.toList.drop 94 = dktX1_byWeight_4 := dk_seg dksX1_byWeight_3 24 rfl rfl
theorem dksX1_byWeight_5 : cX1_byWeight.data.toList.drop 118 = dktX1_byWeight_5 := dk_seg dksX1_byWeight_4 24 rfl rfl
theorem dX1_byWeight_0 : decode cX1_byWeight 0 = .ok (.iload_n 1, 1) := dk_27 (dk_at dksX1_byWeight_0 0 rfl rfl)
theorem dX1_byWeight_1 : decode cX1_byWeight 1 = .ok (.i2l, 1) := dk_133 (dk_at dksX1_byWeight_0 1 rfl rfl)
theorem dX1_byWeight_2 : decode cX1_byWeight 2 = .ok (.lconst 0, 1) := dk_9 (dk_at dksX1_byWeight_0 2 rfl rfl)
theorem dX1_byWeight_3 : decode cX1_byWeight 3 = .ok (.aload_n 0, 1) := dk_42 (dk_at dksX1_byWeight_0 3 rfl rfl)
theorem dX1_byWeight_4 : decode cX1_byWeight 4 = .ok (.getfield 72, 3) := dk_180 0 72 (dk_at dksX1_byWeight_0 4 rfl rfl)
theorem dX1_byWeight_7 : decode cX1_byWeight 7 = .ok (.getfield 210, 3) := dk_180 0 210 (dk_at dksX1_byWeight_0 7 rfl rfl)
theorem dX1_byWeight_10 : decode cX1_byWeight 10 = .ok (.invokevirtual 214, 3) := dk_182 0 214 (dk_at dksX1_byWeight_0 10 rfl rfl)
theorem dX1_byWeight_13 : decode cX1_byWeight 13 = .ok (.iconst 1, 1) := dk_4 (dk_at dksX1_byWeight_0 13 rfl rfl)
theorem dX1_byWeight_14 : decode cX1_byWeight 14 = .ok (.isub, 1) := dk_100 (dk_at dksX1_byWeight_0 14 rfl rfl)
theorem dX1_byWeight_15 : decode cX1_byWeight 15 = .ok (.i2l, 1) := dk_133 (dk_at dksX1_byWeight_0 15 rfl rfl)
theorem dX1_byWeight_16 : decode cX1_byWeight 16 = .ok (.invokestatic 105, 3) := dk_184 0 105 (dk_at dksX1_byWeight_0 16 rfl rfl)
theorem dX1_byWeight_19 : decode cX1_byWeight 19 = .ok (.ifCond .ne 5, 3) := dk_154 0 5 (dk_at dksX1_byWeight_0 19 rfl rfl)
theorem dX1_byWeight_22 : decode cX1_byWeight 22 = .ok (.iconst (-1), 1) := dk_2 (dk_at dksX1_byWeight_0 22 rfl rfl)
theorem dX1_byWeight_23 : decode cX1_byWeight 23 = .ok (.ireturn, 1) := dk_172 (dk_at dksX1_byWeight_0 23 rfl rfl)
theorem dX1_byWeight_24 : decode cX1_byWeight 24 = .ok (.new 340, 3) := dk_187 1 84 (dk_at dksX1_byWeight_1 0 rfl rfl)
theorem dX1_byWeight_27 : decode cX1_byWeight 27 = .ok (.dup, 1) := dk_89 (dk_at dksX1_byWeight_1 3 rfl rfl)
theorem dX1_byWeight_28 : decode cX1_byWeight 28 = .ok (.new 342, 3) := dk_187 1 86 (dk_at dksX1_byWeight_1 4 rfl rfl)
theorem dX1_byWeight_31 : decode cX1_byWeight 31 = .ok (.dup, 1) := dk_89 (dk_at dksX1_byWeight_1 7 rfl rfl)
theorem dX1_byWeight_32 : decode cX1_byWeight 32 = .ok (.invokespecial 344, 3) := dk_183 1 88 (dk_at dksX1_byWeight_1 8 rfl rfl)
theorem dX1_byWeight_35 : decode cX1_byWeight 35 = .ok (.invokespecial 345, 3) := dk_183 1 89 (dk_at dksX1_byWeight_1 11 rfl rfl)
theorem dX1_byWeight_38 : decode cX1_byWeight 38 = .ok (.astore_n 2, 1) := dk_77 (dk_at dksX1_byWeight_1 14 rfl rfl)
theorem dX1_byWeight_39 : decode cX1_byWeight 39 = .ok (.aload_n 0, 1) := dk_42 (dk_at dksX1_byWeight_1 15 rfl rfl)
theorem dX1_byWeight_40 : decode cX1_byWeight 40 = .ok (.getfield 72, 3) := dk_180 0 72 (dk_at dksX1_byWeight_1 16 rfl rfl)
theorem dX1_byWeight_43 : decode cX1_byWeight 43 = .ok (.getfield 210, 3) := dk_180 0 210 (dk_at dksX1_byWeight_1 19 rfl rfl)
theorem dX1_byWeight_46 : decode cX1_byWeight 46 = .ok (.invokevirtual 348, 3) := dk_182 1 92 (dk_at dksX1_byWeight_2 0 rfl rfl)
theorem dX1_byWeight_49 : decode cX1_byWeight 49 = .ok (.invokeinterface 352 1, 5) := by decide +kernel
theorem dX1_byWeight_54 : decode cX1_byWeight 54 = .ok (.astore_n 3, 1) := dk_78 (dk_at dksX1_byWeight_2 8 rfl rfl)
theorem dX1_byWeight_55 : decode cX1_byWeight 55 = .ok (.aload_n 3, 1) := dk_45 (dk_at dksX1_byWeight_2 9 rfl rfl)
theorem dX1_byWeight_56 : decode cX1_byWeight 56 = .ok (.invokeinterface 168 1, 5) := by decide +kernel
theorem dX1_byWeight_61 : decode cX1_byWeight 61 = .ok (.ifCond .eq 25, 3) := dk_153 0 25 (dk_at dksX1_byWeight_2 15 rfl rfl)
theorem dX1_byWeight_64 : decode cX1_byWeight 64 = .ok (.aload_n 3, 1) := dk_45 (dk_at dksX1_byWeight_2 18 rfl rfl)
theorem dX1_byWeight_65 : decode cX1_byWeight 65 = .ok (.invokeinterface 174 1, 5) := by decide +kernel
theorem dX1_byWeight_70 : decode cX1_byWeight 70 = .ok (.checkcast 178, 3) := dk_192 0 178 (dk_at dksX1_byWeight_3 0 rfl rfl)
theorem dX1_byWeight_73 : decode cX1_byWeight 73 = .ok (.astore 4, 2) := dk_58 4 (dk_at dksX1_byWeight_3 3 rfl rfl)
theorem dX1_byWeight_75 : decode cX1_byWeight 75 = .ok (.aload_n 2, 1) := dk_44 (dk_at dksX1_byWeight_3 5 rfl rfl)
theorem dX1_byWeight_76 : decode cX1_byWeight 76 = .ok (.aload 4, 2) := dk_25 4 (dk_at dksX1_byWeight_3 6 rfl rfl)
theorem dX1_byWeight_78 : decode cX1_byWeight 78 = .ok (.invokevirtual 355, 3) := dk_182 1 99 (dk_at dksX1_byWeight_3 8 rfl rfl)
theorem dX1_byWeight_81 : decode cX1_byWeight 81 = .ok (.istore 5, 2) := dk_54 5 (dk_at dksX1_byWeight_3 11 rfl rfl)
theorem dX1_byWeight_83 : decode cX1_byWeight 83 = .ok (.goto (-28), 3) := dk_167 255 228 (dk_at dksX1_byWeight_3 13 rfl rfl)
theorem dX1_byWeight_86 : decode cX1_byWeight 86 = .ok (.iconst 0, 1) := dk_3 (dk_at dksX1_byWeight_3 16 rfl rfl)
theorem dX1_byWeight_87 : decode cX1_byWeight 87 = .ok (.istore_n 3, 1) := dk_62 (dk_at dksX1_byWeight_3 17 rfl rfl)
theorem dX1_byWeight_88 : decode cX1_byWeight 88 = .ok (.iload_n 3, 1) := dk_29 (dk_at dksX1_byWeight_3 18 rfl rfl)
theorem dX1_byWeight_89 : decode cX1_byWeight 89 = .ok (.iload_n 1, 1) := dk_27 (dk_at dksX1_byWeight_3 19 rfl rfl)
theorem dX1_byWeight_90 : decode cX1_byWeight 90 = .ok (.if_icmp .ge 18, 3) := dk_162 0 18 (dk_at dksX1_byWeight_3 20 rfl rfl)
theorem dX1_byWeight_93 : decode cX1_byWeight 93 = .ok (.aload_n 2, 1) := dk_44 (dk_at dksX1_byWeight_3 23 rfl rfl)
theorem dX1_byWeight_94 : decode cX1_byWeight 94 = .ok (.invokevirtual 358, 3) := dk_182 1 102 (dk_at dksX1_byWeight_4 0 rfl rfl)
theorem dX1_byWeight_97 : decode cX1_byWeight 97 = .ok (.checkcast 178, 3) := dk_192 0 178 (dk_at dksX1_byWeight_4 3 rfl rfl)
theorem dX1_byWeight_100 : decode cX1_byWeight 100 = .ok (.astore 4, 2) := dk_58 4 (dk_at dksX1_byWeight_4 6 rfl rfl)
theorem dX1_byWeight_102 : decode cX1_byWeight 102 = .ok (.iinc 3 1, 3) := dk_132 3 1 (dk_at dksX1_byWeight_4 8 rfl rfl)
theorem dX1_byWeight_105 : decode cX1_byWeight 105 = .ok (.goto (-17), 3) := dk_167 255 239 (dk_at dksX1_byWeight_4 11 rfl rfl)
theorem dX1_byWeight_108 : decode cX1_byWeight 108 = .ok (.aload_n 2, 1) := dk_44 (dk_at dksX1_byWeight_4 14 rfl rfl)
theorem dX1_byWeight_109 : decode cX1_byWeight 109 = .ok (.invokevirtual 361, 3) := dk_182 1 105 (dk_at dksX1_byWeight_4 15 rfl rfl)
theorem dX1_byWeight_112 : decode cX1_byWeight 112 = .ok (.checkcast 178, 3) := dk_192 0 178 (dk_at dksX1_byWeight_4 18 rfl rfl)
theorem dX1_byWeight_115 : decode cX1_byWeight 115 = .ok (.getfield 301, 3) := dk_180 1 45 (dk_at dksX1_byWeight_4 21 rfl rfl)
theorem dX1_byWeight_118 : decode cX1_byWeight 118 = .ok (.ireturn, 1) := dk_172 (dk_at dksX1_byWeight_5 0 rfl rfl)
abbrev cX1_checkElement : ByteArray := prog_1_method_5_code
def yX1_checkElement : MethodName := ⟨RX1, "checkElement", "(Z)V"⟩
def dkwX1_checkElement_0 : List UInt8 := [26, 154, 0, 11, 187, 0, 13, 89, 183, 0, 15, 191, 177]
abbrev dktX1_checkElement_0 : List UInt8 := dkwX1_checkElement_0 ++ []
theorem dksX1_checkElement_0 : cX1_checkElement.data.toList.drop 0 = dktX1_checkElement_0 := by decide +kernel
theorem dX1_checkElement_0 : decode cX1_checkElement 0 = .ok (.iload_n 0, 1) := dk_26 (dk_at dksX1_checkElement_0 0 rfl rfl)
theorem dX1_checkElement_1 : decode cX1_checkElement 1 = .ok (.ifCond .ne 11, 3) := dk_154 0 11 (dk_at dksX1_checkElement_0 1 rfl rfl)
theorem dX1_checkElement_4 : decode cX1_checkElement 4 = .ok (.new 13, 3) := dk_187 0 13 (dk_at dksX1_checkElement_0 4 rfl rfl)
theorem dX1_checkElement_7 : decode cX1_checkElement 7 = .ok (.dup, 1) := dk_89 (dk_at dksX1_checkElement_0 7 rfl rfl)
theorem dX1_checkElement_8 : decode cX1_checkElement 8 = .ok (.invokespecial 15, 3) := dk_183 0 15 (dk_at dksX1_checkElement_0 8 rfl rfl)
theorem dX1_checkElement_11 : decode cX1_checkElement 11 = .ok (.athrow, 1) := dk_191 (dk_at dksX1_checkElement_0 11 rfl rfl)
theorem dX1_checkElement_12 : decode cX1_checkElement 12 = .ok (.return_, 1) := dk_177 (dk_at dksX1_checkElement_0 12 rfl rfl)
abbrev cX1_bestRule : ByteArray := prog_1_method_57_code
def yX1_bestRule : MethodName := ⟨RX1, "bestRule", "()I"⟩
def dkwX1_bestRule_1 : List UInt8 := [54, 4, 21, 4, 28, 163, 0, 6, 167, 0, 8, 29, 60, 21, 4, 61, 132, 3, 1, 167, 255, 224, 27, 172]
abbrev dktX1_bestRule_1 : List UInt8 := dkwX1_bestRule_1 ++ []
def dkwX1_bestRule_0 : List UInt8 := [3, 60, 42, 3, 182, 1, 154, 61, 4, 62, 29, 3, 184, 1, 151, 163, 0, 30, 42, 29, 182, 1, 154]
abbrev dktX1_bestRule_0 : List UInt8 := dkwX1_bestRule_0 ++ dktX1_bestRule_1
theorem dksX1_bestRule_0 : cX1_bestRule.data.toList.drop 0 = dktX1_bestRule_0 := by decide +kernel
theorem dksX1_bestRule_1 : cX1_bestRule.data.toList.drop 23 = dktX1_bestRule_1 := dk_seg dksX1_bestRule_0 23 rfl rfl
theorem dX1_bestRule_0 : decode cX1_bestRule 0 = .ok (.iconst 0, 1) := dk_3 (dk_at dksX1_bestRule_0 0 rfl rfl)
theorem dX1_bestRule_1 : decode cX1_bestRule 1 = .ok (.istore_n 1, 1) := dk_60 (dk_at dksX1_bestRule_0 1 rfl rfl)
theorem dX1_bestRule_2 : decode cX1_bestRule 2 = .ok (.aload_n 0, 1) := dk_42 (dk_at dksX1_bestRule_0 2 rfl rfl)
theorem dX1_bestRule_3 : decode cX1_bestRule 3 = .ok (.iconst 0, 1) := dk_3 (dk_at dksX1_bestRule_0 3 rfl rfl)
theorem dX1_bestRule_4 : decode cX1_bestRule 4 = .ok (.invokevirtual 410, 3) := dk_182 1 154 (dk_at dksX1_bestRule_0 4 rfl rfl)
theorem dX1_bestRule_7 : decode cX1_bestRule 7 = .ok (.istore_n 2, 1) := dk_61 (dk_at dksX1_bestRule_0 7 rfl rfl)
theorem dX1_bestRule_8 : decode cX1_bestRule 8 = .ok (.iconst 1, 1) := dk_4 (dk_at dksX1_bestRule_0 8 rfl rfl)
theorem dX1_bestRule_9 : decode cX1_bestRule 9 = .ok (.istore_n 3, 1) := dk_62 (dk_at dksX1_bestRule_0 9 rfl rfl)
theorem dX1_bestRule_10 : decode cX1_bestRule 10 = .ok (.iload_n 3, 1) := dk_29 (dk_at dksX1_bestRule_0 10 rfl rfl)
theorem dX1_bestRule_11 : decode cX1_bestRule 11 = .ok (.iconst 0, 1) := dk_3 (dk_at dksX1_bestRule_0 11 rfl rfl)
theorem dX1_bestRule_12 : decode cX1_bestRule 12 = .ok (.invokestatic 407, 3) := dk_184 1 151 (dk_at dksX1_bestRule_0 12 rfl rfl)
theorem dX1_bestRule_15 : decode cX1_bestRule 15 = .ok (.if_icmp .gt 30, 3) := dk_163 0 30 (dk_at dksX1_bestRule_0 15 rfl rfl)
theorem dX1_bestRule_18 : decode cX1_bestRule 18 = .ok (.aload_n 0, 1) := dk_42 (dk_at dksX1_bestRule_0 18 rfl rfl)
theorem dX1_bestRule_19 : decode cX1_bestRule 19 = .ok (.iload_n 3, 1) := dk_29 (dk_at dksX1_bestRule_0 19 rfl rfl)
theorem dX1_bestRule_20 : decode cX1_bestRule 20 = .ok (.invokevirtual 410, 3) := dk_182 1 154 (dk_at dksX1_bestRule_0 20 rfl rfl)
theorem dX1_bestRule_23 : decode cX1_bestRule 23 = .ok (.istore 4, 2) := dk_54 4 (dk_at dksX1_bestRule_1 0 rfl rfl)
theorem dX1_bestRule_25 : decode cX1_bestRule 25 = .ok (.iload 4, 2) := dk_21 4 (dk_at dksX1_bestRule_1 2 rfl rfl)
theorem dX1_bestRule_27 : decode cX1_bestRule 27 = .ok (.iload_n 2, 1) := dk_28 (dk_at dksX1_bestRule_1 4 rfl rfl)
theorem dX1_bestRule_28 : decode cX1_bestRule 28 = .ok (.if_icmp .gt 6, 3) := dk_163 0 6 (dk_at dksX1_bestRule_1 5 rfl rfl)
theorem dX1_bestRule_31 : decode cX1_bestRule 31 = .ok (.goto 8, 3) := dk_167 0 8 (dk_at dksX1_bestRule_1 8 rfl rfl)
theorem dX1_bestRule_34 : decode cX1_bestRule 34 = .ok (.iload_n 3, 1) := dk_29 (dk_at dksX1_bestRule_1 11 rfl rfl)
theorem dX1_bestRule_35 : decode cX1_bestRule 35 = .ok (.istore_n 1, 1) := dk_60 (dk_at dksX1_bestRule_1 12 rfl rfl)
theorem dX1_bestRule_36 : decode cX1_bestRule 36 = .ok (.iload 4, 2) := dk_21 4 (dk_at dksX1_bestRule_1 13 rfl rfl)
theorem dX1_bestRule_38 : decode cX1_bestRule 38 = .ok (.istore_n 2, 1) := dk_61 (dk_at dksX1_bestRule_1 15 rfl rfl)
theorem dX1_bestRule_39 : decode cX1_bestRule 39 = .ok (.iinc 3 1, 3) := dk_132 3 1 (dk_at dksX1_bestRule_1 16 rfl rfl)
theorem dX1_bestRule_42 : decode cX1_bestRule 42 = .ok (.goto (-32), 3) := dk_167 255 224 (dk_at dksX1_bestRule_1 19 rfl rfl)
theorem dX1_bestRule_45 : decode cX1_bestRule 45 = .ok (.iload_n 1, 1) := dk_27 (dk_at dksX1_bestRule_1 22 rfl rfl)
theorem dX1_bestRule_46 : decode cX1_bestRule 46 = .ok (.ireturn, 1) := dk_172 (dk_at dksX1_bestRule_1 23 rfl rfl)
abbrev cX1_rightByRule : ByteArray := prog_1_method_55_code
def yX1_rightByRule : MethodName := ⟨RX1, "rightByRule", "(I)I"⟩
def dkwX1_rightByRule_0 : List UInt8 := [42, 27, 42, 180, 0, 72, 180, 0, 207, 4, 46, 42, 180, 0, 72, 180, 0, 207, 5, 46, 182, 1, 148, 172]
abbrev dktX1_rightByRule_0 : List UInt8 := dkwX1_rightByRule_0 ++ []
theorem dksX1_rightByRule_0 : cX1_rightByRule.data.toList.drop 0 = dktX1_rightByRule_0 := by decide +kernel
theorem dX1_rightByRule_0 : decode cX1_rightByRule 0 = .ok (.aload_n 0, 1) := dk_42 (dk_at dksX1_rightByRule_0 0 rfl rfl)
theorem dX1_rightByRule_1 : decode cX1_rightByRule 1 = .ok (.iload_n 1, 1) := dk_27 (dk_at dksX1_rightByRule_0 1 rfl rfl)
theorem dX1_rightByRule_2 : decode cX1_rightByRule 2 = .ok (.aload_n 0, 1) := dk_42 (dk_at dksX1_rightByRule_0 2 rfl rfl)
theorem dX1_rightByRule_3 : decode cX1_rightByRule 3 = .ok (.getfield 72, 3) := dk_180 0 72 (dk_at dksX1_rightByRule_0 3 rfl rfl)
theorem dX1_rightByRule_6 : decode cX1_rightByRule 6 = .ok (.getfield 207, 3) := dk_180 0 207 (dk_at dksX1_rightByRule_0 6 rfl rfl)
theorem dX1_rightByRule_9 : decode cX1_rightByRule 9 = .ok (.iconst 1, 1) := dk_4 (dk_at dksX1_rightByRule_0 9 rfl rfl)
theorem dX1_rightByRule_10 : decode cX1_rightByRule 10 = .ok (.iaload, 1) := dk_46 (dk_at dksX1_rightByRule_0 10 rfl rfl)
theorem dX1_rightByRule_11 : decode cX1_rightByRule 11 = .ok (.aload_n 0, 1) := dk_42 (dk_at dksX1_rightByRule_0 11 rfl rfl)
theorem dX1_rightByRule_12 : decode cX1_rightByRule 12 = .ok (.getfield 72, 3) := dk_180 0 72 (dk_at dksX1_rightByRule_0 12 rfl rfl)
theorem dX1_rightByRule_15 : decode cX1_rightByRule 15 = .ok (.getfield 207, 3) := dk_180 0 207 (dk_at dksX1_rightByRule_0 15 rfl rfl)
theorem dX1_rightByRule_18 : decode cX1_rightByRule 18 = .ok (.iconst 2, 1) := dk_5 (dk_at dksX1_rightByRule_0 18 rfl rfl)
theorem dX1_rightByRule_19 : decode cX1_rightByRule 19 = .ok (.iaload, 1) := dk_46 (dk_at dksX1_rightByRule_0 19 rfl rfl)
theorem dX1_rightByRule_20 : decode cX1_rightByRule 20 = .ok (.invokevirtual 404, 3) := dk_182 1 148 (dk_at dksX1_rightByRule_0 20 rfl rfl)
theorem dX1_rightByRule_23 : decode cX1_rightByRule 23 = .ok (.ireturn, 1) := dk_172 (dk_at dksX1_rightByRule_0 23 rfl rfl)
abbrev cX1_rightIf : ByteArray := prog_1_method_54_code
def yX1_rightIf : MethodName := ⟨RX1, "rightIf", "(III)I"⟩
def dkwX1_rightIf_1 : List UInt8 := [29, 182, 1, 142, 96, 54, 5, 25, 4, 182, 1, 145, 172]
abbrev dktX1_rightIf_1 : List UInt8 := dkwX1_rightIf_1 ++ []
def dkwX1_rightIf_0 : List UInt8 := [42, 182, 1, 134, 58, 4, 25, 4, 3, 27, 182, 1, 142, 25, 4, 4, 28, 182, 1, 142, 96, 25, 4, 5]
abbrev dktX1_rightIf_0 : List UInt8 := dkwX1_rightIf_0 ++ dktX1_rightIf_1
theorem dksX1_rightIf_0 : cX1_rightIf.data.toList.drop 0 = dktX1_rightIf_0 := by decide +kernel
theorem dksX1_rightIf_1 : cX1_rightIf.data.toList.drop 24 = dktX1_rightIf_1 := dk_seg dksX1_rightIf_0 24 rfl rfl
theorem dX1_rightIf_0 : decode cX1_rightIf 0 = .ok (.aload_n 0, 1) := dk_42 (dk_at dksX1_rightIf_0 0 rfl rfl)
theorem dX1_rightIf_1 : decode cX1_rightIf 1 = .ok (.invokevirtual 390, 3) := dk_182 1 134 (dk_at dksX1_rightIf_0 1 rfl rfl)
theorem dX1_rightIf_4 : decode cX1_rightIf 4 = .ok (.astore 4, 2) := dk_58 4 (dk_at dksX1_rightIf_0 4 rfl rfl)
theorem dX1_rightIf_6 : decode cX1_rightIf 6 = .ok (.aload 4, 2) := dk_25 4 (dk_at dksX1_rightIf_0 6 rfl rfl)
theorem dX1_rightIf_8 : decode cX1_rightIf 8 = .ok (.iconst 0, 1) := dk_3 (dk_at dksX1_rightIf_0 8 rfl rfl)
theorem dX1_rightIf_9 : decode cX1_rightIf 9 = .ok (.iload_n 1, 1) := dk_27 (dk_at dksX1_rightIf_0 9 rfl rfl)
theorem dX1_rightIf_10 : decode cX1_rightIf 10 = .ok (.invokevirtual 398, 3) := dk_182 1 142 (dk_at dksX1_rightIf_0 10 rfl rfl)
theorem dX1_rightIf_13 : decode cX1_rightIf 13 = .ok (.aload 4, 2) := dk_25 4 (dk_at dksX1_rightIf_0 13 rfl rfl)
theorem dX1_rightIf_15 : decode cX1_rightIf 15 = .ok (.iconst 1, 1) := dk_4 (dk_at dksX1_rightIf_0 15 rfl rfl)
theorem dX1_rightIf_16 : decode cX1_rightIf 16 = .ok (.iload_n 2, 1) := dk_28 (dk_at dksX1_rightIf_0 16 rfl rfl)
theorem dX1_rightIf_17 : decode cX1_rightIf 17 = .ok (.invokevirtual 398, 3) := dk_182 1 142 (dk_at dksX1_rightIf_0 17 rfl rfl)
theorem dX1_rightIf_20 : decode cX1_rightIf 20 = .ok (.iadd, 1) := dk_96 (dk_at dksX1_rightIf_0 20 rfl rfl)
theorem dX1_rightIf_21 : decode cX1_rightIf 21 = .ok (.aload 4, 2) := dk_25 4 (dk_at dksX1_rightIf_0 21 rfl rfl)
theorem dX1_rightIf_23 : decode cX1_rightIf 23 = .ok (.iconst 2, 1) := dk_5 (dk_at dksX1_rightIf_0 23 rfl rfl)
theorem dX1_rightIf_24 : decode cX1_rightIf 24 = .ok (.iload_n 3, 1) := dk_29 (dk_at dksX1_rightIf_1 0 rfl rfl)
theorem dX1_rightIf_25 : decode cX1_rightIf 25 = .ok (.invokevirtual 398, 3) := dk_182 1 142 (dk_at dksX1_rightIf_1 1 rfl rfl)
theorem dX1_rightIf_28 : decode cX1_rightIf 28 = .ok (.iadd, 1) := dk_96 (dk_at dksX1_rightIf_1 4 rfl rfl)
theorem dX1_rightIf_29 : decode cX1_rightIf 29 = .ok (.istore 5, 2) := dk_54 5 (dk_at dksX1_rightIf_1 5 rfl rfl)
theorem dX1_rightIf_31 : decode cX1_rightIf 31 = .ok (.aload 4, 2) := dk_25 4 (dk_at dksX1_rightIf_1 7 rfl rfl)
theorem dX1_rightIf_33 : decode cX1_rightIf 33 = .ok (.invokevirtual 401, 3) := dk_182 1 145 (dk_at dksX1_rightIf_1 9 rfl rfl)
theorem dX1_rightIf_36 : decode cX1_rightIf 36 = .ok (.ireturn, 1) := dk_172 (dk_at dksX1_rightIf_1 12 rfl rfl)
abbrev cX1_think : ByteArray := prog_1_method_50_code
def yX1_think : MethodName := ⟨RX1, "think", "()LRoseProverbs$Rose;"⟩
def dkwX1_think_2 : List UInt8 := [180, 0, 79, 42, 180, 0, 72, 182, 1, 124, 176]
abbrev dktX1_think_2 : List UInt8 := dkwX1_think_2 ++ []
def dkwX1_think_1 : List UInt8 := [160, 0, 10, 42, 182, 1, 121, 154, 0, 14, 42, 42, 180, 0, 72, 182, 0, 76, 181, 0, 79, 42]
abbrev dktX1_think_1 : List UInt8 := dkwX1_think_1 ++ dktX1_think_2
def dkwX1_think_0 : List UInt8 := [42, 180, 0, 79, 180, 0, 18, 185, 0, 24, 1, 0, 42, 180, 0, 72, 180, 0, 18, 185, 0, 24, 1, 0]
abbrev dktX1_think_0 : List UInt8 := dkwX1_think_0 ++ dktX1_think_1
theorem dksX1_think_0 : cX1_think.data.toList.drop 0 = dktX1_think_0 := by decide +kernel
theorem dksX1_think_1 : cX1_think.data.toList.drop 24 = dktX1_think_1 := dk_seg dksX1_think_0 24 rfl rfl
theorem dksX1_think_2 : cX1_think.data.toList.drop 46 = dktX1_think_2 := dk_seg dksX1_think_1 22 rfl rfl
theorem dX1_think_0 : decode cX1_think 0 = .ok (.aload_n 0, 1) := dk_42 (dk_at dksX1_think_0 0 rfl rfl)
theorem dX1_think_1 : decode cX1_think 1 = .ok (.getfield 79, 3) := dk_180 0 79 (dk_at dksX1_think_0 1 rfl rfl)
theorem dX1_think_4 : decode cX1_think 4 = .ok (.getfield 18, 3) := dk_180 0 18 (dk_at dksX1_think_0 4 rfl rfl)
theorem dX1_think_7 : decode cX1_think 7 = .ok (.invokeinterface 24 1, 5) := by decide +kernel
theorem dX1_think_12 : decode cX1_think 12 = .ok (.aload_n 0, 1) := dk_42 (dk_at dksX1_think_0 12 rfl rfl)
theorem dX1_think_13 : decode cX1_think 13 = .ok (.getfield 72, 3) := dk_180 0 72 (dk_at dksX1_think_0 13 rfl rfl)
theorem dX1_think_16 : decode cX1_think 16 = .ok (.getfield 18, 3) := dk_180 0 18 (dk_at dksX1_think_0 16 rfl rfl)
theorem dX1_think_19 : decode cX1_think 19 = .ok (.invokeinterface 24 1, 5) := by decide +kernel
theorem dX1_think_24 : decode cX1_think 24 = .ok (.if_icmp .ne 10, 3) := dk_160 0 10 (dk_at dksX1_think_1 0 rfl rfl)
theorem dX1_think_27 : decode cX1_think 27 = .ok (.aload_n 0, 1) := dk_42 (dk_at dksX1_think_1 3 rfl rfl)
theorem dX1_think_28 : decode cX1_think 28 = .ok (.invokevirtual 377, 3) := dk_182 1 121 (dk_at dksX1_think_1 4 rfl rfl)
theorem dX1_think_31 : decode cX1_think 31 = .ok (.ifCond .ne 14, 3) := dk_154 0 14 (dk_at dksX1_think_1 7 rfl rfl)
theorem dX1_think_34 : decode cX1_think 34 = .ok (.aload_n 0, 1) := dk_42 (dk_at dksX1_think_1 10 rfl rfl)
theorem dX1_think_35 : decode cX1_think 35 = .ok (.aload_n 0, 1) := dk_42 (dk_at dksX1_think_1 11 rfl rfl)
theorem dX1_think_36 : decode cX1_think 36 = .ok (.getfield 72, 3) := dk_180 0 72 (dk_at dksX1_think_1 12 rfl rfl)
theorem dX1_think_39 : decode cX1_think 39 = .ok (.invokevirtual 76, 3) := dk_182 0 76 (dk_at dksX1_think_1 15 rfl rfl)
theorem dX1_think_42 : decode cX1_think 42 = .ok (.putfield 79, 3) := dk_181 0 79 (dk_at dksX1_think_1 18 rfl rfl)
theorem dX1_think_45 : decode cX1_think 45 = .ok (.aload_n 0, 1) := dk_42 (dk_at dksX1_think_1 21 rfl rfl)
theorem dX1_think_46 : decode cX1_think 46 = .ok (.getfield 79, 3) := dk_180 0 79 (dk_at dksX1_think_2 0 rfl rfl)
theorem dX1_think_49 : decode cX1_think 49 = .ok (.aload_n 0, 1) := dk_42 (dk_at dksX1_think_2 3 rfl rfl)
theorem dX1_think_50 : decode cX1_think 50 = .ok (.getfield 72, 3) := dk_180 0 72 (dk_at dksX1_think_2 4 rfl rfl)
theorem dX1_think_53 : decode cX1_think 53 = .ok (.invokevirtual 380, 3) := dk_182 1 124 (dk_at dksX1_think_2 7 rfl rfl)
theorem dX1_think_56 : decode cX1_think 56 = .ok (.areturn, 1) := dk_176 (dk_at dksX1_think_2 10 rfl rfl)
abbrev cX1_isAlike : ByteArray := prog_1_method_51_code
def yX1_isAlike : MethodName := ⟨RX1, "isAlike", "()Z"⟩
def dkwX1_isAlike_3 : List UInt8 := [167, 0, 4, 3, 61, 28, 154, 0, 5, 3, 172, 132, 1, 1, 167, 255, 175, 4, 172]
abbrev dktX1_isAlike_3 : List UInt8 := dkwX1_isAlike_3 ++ []
def dkwX1_isAlike_2 : List UInt8 := [27, 182, 0, 244, 180, 1, 15, 42, 180, 0, 72, 27, 182, 0, 244, 180, 1, 15, 160, 0, 7, 4]
abbrev dktX1_isAlike_2 : List UInt8 := dkwX1_isAlike_2 ++ dktX1_isAlike_3
def dkwX1_isAlike_1 : List UInt8 := [182, 0, 244, 182, 1, 128, 42, 180, 0, 72, 27, 182, 0, 244, 182, 1, 128, 160, 0, 32, 42, 180, 0, 79]
abbrev dktX1_isAlike_1 : List UInt8 := dkwX1_isAlike_1 ++ dktX1_isAlike_2
def dkwX1_isAlike_0 : List UInt8 := [3, 60, 27, 42, 180, 0, 72, 180, 0, 18, 185, 0, 24, 1, 0, 162, 0, 71, 42, 180, 0, 79, 27]
abbrev dktX1_isAlike_0 : List UInt8 := dkwX1_isAlike_0 ++ dktX1_isAlike_1
theorem dksX1_isAlike_0 : cX1_isAlike.data.toList.drop 0 = dktX1_isAlike_0 := by decide +kernel
theorem dksX1_isAlike_1 : cX1_isAlike.data.toList.drop 23 = dktX1_isAlike_1 := dk_seg dksX1_isAlike_0 23 rfl rfl
theorem dksX1_isAlike_2 : cX1_isAlike.data.toList.drop 47 = dktX1_isAlike_2 := dk_seg dksX1_isAlike_1 24 rfl rfl
theorem dksX1_isAlike_3 : cX1_isAlike.data.toList.drop 69 = dktX1_isAlike_3 := dk_seg dksX1_isAlike_2 22 rfl rfl
theorem dX1_isAlike_0 : decode cX1_isAlike 0 = .ok (.iconst 0, 1) := dk_3 (dk_at dksX1_isAlike_0 0 rfl rfl)
theorem dX1_isAlike_1 : decode cX1_isAlike 1 = .ok (.istore_n 1, 1) := dk_60 (dk_at dksX1_isAlike_0 1 rfl rfl)
theorem dX1_isAlike_2 : decode cX1_isAlike 2 = .ok (.iload_n 1, 1) := dk_27 (dk_at dksX1_isAlike_0 2 rfl rfl)
theorem dX1_isAlike_3 : decode cX1_isAlike 3 = .ok (.aload_n 0, 1) := dk_42 (dk_at dksX1_isAlike_0 3 rfl rfl)
theorem dX1_isAlike_4 : decode cX1_isAlike 4 = .ok (.getfield 72, 3) := dk_180 0 72 (dk_at dksX1_isAlike_0 4 rfl rfl)
theorem dX1_isAlike_7 : decode cX1_isAlike 7 = .ok (.getfield 18, 3) := dk_180 0 18 (dk_at dksX1_isAlike_0 7 rfl rfl)
theorem dX1_isAlike_10 : decode cX1_isAlike 10 = .ok (.invokeinterface 24 1, 5) := by decide +kernel
theorem dX1_isAlike_15 : decode cX1_isAlike 15 = .ok (.if_icmp .ge 71, 3) := dk_162 0 71 (dk_at dksX1_isAlike_0 15 rfl rfl)
theorem dX1_isAlike_18 : decode cX1_isAlike 18 = .ok (.aload_n 0, 1) := dk_42 (dk_at dksX1_isAlike_0 18 rfl rfl)
theorem dX1_isAlike_19 : decode cX1_isAlike 19 = .ok (.getfield 79, 3) := dk_180 0 79 (dk_at dksX1_isAlike_0 19 rfl rfl)
theorem dX1_isAlike_22 : decode cX1_isAlike 22 = .ok (.iload_n 1, 1) := dk_27 (dk_at dksX1_isAlike_0 22 rfl rfl)
theorem dX1_isAlike_23 : decode cX1_isAlike 23 = .ok (.invokevirtual 244, 3) := dk_182 0 244 (dk_at dksX1_isAlike_1 0 rfl rfl)
theorem dX1_isAlike_26 : decode cX1_isAlike 26 = .ok (.invokevirtual 384, 3) := dk_182 1 128 (dk_at dksX1_isAlike_1 3 rfl rfl)
theorem dX1_isAlike_29 : decode cX1_isAlike 29 = .ok (.aload_n 0, 1) := dk_42 (dk_at dksX1_isAlike_1 6 rfl rfl)
theorem dX1_isAlike_30 : decode cX1_isAlike 30 = .ok (.getfield 72, 3) := dk_180 0 72 (dk_at dksX1_isAlike_1 7 rfl rfl)
theorem dX1_isAlike_33 : decode cX1_isAlike 33 = .ok (.iload_n 1, 1) := dk_27 (dk_at dksX1_isAlike_1 10 rfl rfl)
theorem dX1_isAlike_34 : decode cX1_isAlike 34 = .ok (.invokevirtual 244, 3) := dk_182 0 244 (dk_at dksX1_isAlike_1 11 rfl rfl)
theorem dX1_isAlike_37 : decode cX1_isAlike 37 = .ok (.invokevirtual 384, 3) := dk_182 1 128 (dk_at dksX1_isAlike_1 14 rfl rfl)
theorem dX1_isAlike_40 : decode cX1_isAlike 40 = .ok (.if_icmp .ne 32, 3) := dk_160 0 32 (dk_at dksX1_isAlike_1 17 rfl rfl)
theorem dX1_isAlike_43 : decode cX1_isAlike 43 = .ok (.aload_n 0, 1) := dk_42 (dk_at dksX1_isAlike_1 20 rfl rfl)
theorem dX1_isAlike_44 : decode cX1_isAlike 44 = .ok (.getfield 79, 3) := dk_180 0 79 (dk_at dksX1_isAlike_1 21 rfl rfl)
theorem dX1_isAlike_47 : decode cX1_isAlike 47 = .ok (.iload_n 1, 1) := dk_27 (dk_at dksX1_isAlike_2 0 rfl rfl)
theorem dX1_isAlike_48 : decode cX1_isAlike 48 = .ok (.invokevirtual 244, 3) := dk_182 0 244 (dk_at dksX1_isAlike_2 1 rfl rfl)
theorem dX1_isAlike_51 : decode cX1_isAlike 51 = .ok (.getfield 271, 3) := dk_180 1 15 (dk_at dksX1_isAlike_2 4 rfl rfl)
theorem dX1_isAlike_54 : decode cX1_isAlike 54 = .ok (.aload_n 0, 1) := dk_42 (dk_at dksX1_isAlike_2 7 rfl rfl)
theorem dX1_isAlike_55 : decode cX1_isAlike 55 = .ok (.getfield 72, 3) := dk_180 0 72 (dk_at dksX1_isAlike_2 8 rfl rfl)
theorem dX1_isAlike_58 : decode cX1_isAlike 58 = .ok (.iload_n 1, 1) := dk_27 (dk_at dksX1_isAlike_2 11 rfl rfl)
theorem dX1_isAlike_59 : decode cX1_isAlike 59 = .ok (.invokevirtual 244, 3) := dk_182 0 244 (dk_at dksX1_isAlike_2 12 rfl rfl)
theorem dX1_isAlike_62 : decode cX1_isAlike 62 = .ok (.getfield 271, 3) := dk_180 1 15 (dk_at dksX1_isAlike_2 15 rfl rfl)
theorem dX1_isAlike_65 : decode cX1_isAlike 65 = .ok (.if_icmp .ne 7, 3) := dk_160 0 7 (dk_at dksX1_isAlike_2 18 rfl rfl)
theorem dX1_isAlike_68 : decode cX1_isAlike 68 = .ok (.iconst 1, 1) := dk_4 (dk_at dksX1_isAlike_2 21 rfl rfl)
theorem dX1_isAlike_69 : decode cX1_isAlike 69 = .ok (.goto 4, 3) := dk_167 0 4 (dk_at dksX1_isAlike_3 0 rfl rfl)
theorem dX1_isAlike_72 : decode cX1_isAlike 72 = .ok (.iconst 0, 1) := dk_3 (dk_at dksX1_isAlike_3 3 rfl rfl)
theorem dX1_isAlike_73 : decode cX1_isAlike 73 = .ok (.istore_n 2, 1) := dk_61 (dk_at dksX1_isAlike_3 4 rfl rfl)
theorem dX1_isAlike_74 : decode cX1_isAlike 74 = .ok (.iload_n 2, 1) := dk_28 (dk_at dksX1_isAlike_3 5 rfl rfl)
theorem dX1_isAlike_75 : decode cX1_isAlike 75 = .ok (.ifCond .ne 5, 3) := dk_154 0 5 (dk_at dksX1_isAlike_3 6 rfl rfl)
theorem dX1_isAlike_78 : decode cX1_isAlike 78 = .ok (.iconst 0, 1) := dk_3 (dk_at dksX1_isAlike_3 9 rfl rfl)
theorem dX1_isAlike_79 : decode cX1_isAlike 79 = .ok (.ireturn, 1) := dk_172 (dk_at dksX1_isAlike_3 10 rfl rfl)
theorem dX1_isAlike_80 : decode cX1_isAlike 80 = .ok (.iinc 1 1, 3) := dk_132 1 1 (dk_at dksX1_isAlike_3 11 rfl rfl)
theorem dX1_isAlike_83 : decode cX1_isAlike 83 = .ok (.goto (-81), 3) := dk_167 255 175 (dk_at dksX1_isAlike_3 14 rfl rfl)
theorem dX1_isAlike_86 : decode cX1_isAlike 86 = .ok (.iconst 1, 1) := dk_4 (dk_at dksX1_isAlike_3 17 rfl rfl)
theorem dX1_isAlike_87 : decode cX1_isAlike 87 = .ok (.ireturn, 1) := dk_172 (dk_at dksX1_isAlike_3 18 rfl rfl)
abbrev cX1_agree : ByteArray := prog_1_method_66_code
def yX1_agree : MethodName := ⟨RX1, "agree", "()Z"⟩
def dkwX1_agree_1 : List UInt8 := [182, 1, 176, 153, 0, 7, 4, 167, 0, 4, 3, 172]
abbrev dktX1_agree_1 : List UInt8 := dkwX1_agree_1 ++ []
def dkwX1_agree_0 : List UInt8 := [42, 182, 1, 167, 153, 0, 28, 42, 182, 1, 170, 153, 0, 21, 42, 182, 1, 173, 153, 0, 14, 42]
abbrev dktX1_agree_0 : List UInt8 := dkwX1_agree_0 ++ dktX1_agree_1
theorem dksX1_agree_0 : cX1_agree.data.toList.drop 0 = dktX1_agree_0 := by decide +kernel
theorem dksX1_agree_1 : cX1_agree.data.toList.drop 22 = dktX1_agree_1 := dk_seg dksX1_agree_0 22 rfl rfl
theorem dX1_agree_0 : decode cX1_agree 0 = .ok (.aload_n 0, 1) := dk_42 (dk_at dksX1_agree_0 0 rfl rfl)
theorem dX1_agree_1 : decode cX1_agree 1 = .ok (.invokevirtual 423, 3) := dk_182 1 167 (dk_at dksX1_agree_0 1 rfl rfl)
theorem dX1_agree_4 : decode cX1_agree 4 = .ok (.ifCond .eq 28, 3) := dk_153 0 28 (dk_at dksX1_agree_0 4 rfl rfl)
theorem dX1_agree_7 : decode cX1_agree 7 = .ok (.aload_n 0, 1) := dk_42 (dk_at dksX1_agree_0 7 rfl rfl)
theorem dX1_agree_8 : decode cX1_agree 8 = .ok (.invokevirtual 426, 3) := dk_182 1 170 (dk_at dksX1_agree_0 8 rfl rfl)
theorem dX1_agree_11 : decode cX1_agree 11 = .ok (.ifCond .eq 21, 3) := dk_153 0 21 (dk_at dksX1_agree_0 11 rfl rfl)
theorem dX1_agree_14 : decode cX1_agree 14 = .ok (.aload_n 0, 1) := dk_42 (dk_at dksX1_agree_0 14 rfl rfl)
theorem dX1_agree_15 : decode cX1_agree 15 = .ok (.invokevirtual 429, 3) := dk_182 1 173 (dk_at dksX1_agree_0 15 rfl rfl)
theorem dX1_agree_18 : decode cX1_agree 18 = .ok (.ifCond .eq 14, 3) := dk_153 0 14 (dk_at dksX1_agree_0 18 rfl rfl)
theorem dX1_agree_21 : decode cX1_agree 21 = .ok (.aload_n 0, 1) := dk_42 (dk_at dksX1_agree_0 21 rfl rfl)
theorem dX1_agree_22 : decode cX1_agree 22 = .ok (.invokevirtual 432, 3) := dk_182 1 176 (dk_at dksX1_agree_1 0 rfl rfl)
theorem dX1_agree_25 : decode cX1_agree 25 = .ok (.ifCond .eq 7, 3) := dk_153 0 7 (dk_at dksX1_agree_1 3 rfl rfl)
theorem dX1_agree_28 : decode cX1_agree 28 = .ok (.iconst 1, 1) := dk_4 (dk_at dksX1_agree_1 6 rfl rfl)
theorem dX1_agree_29 : decode cX1_agree 29 = .ok (.goto 4, 3) := dk_167 0 4 (dk_at dksX1_agree_1 7 rfl rfl)
theorem dX1_agree_32 : decode cX1_agree 32 = .ok (.iconst 0, 1) := dk_3 (dk_at dksX1_agree_1 10 rfl rfl)
theorem dX1_agree_33 : decode cX1_agree 33 = .ok (.ireturn, 1) := dk_172 (dk_at dksX1_agree_1 11 rfl rfl)
abbrev cX1_areTold : ByteArray := prog_1_method_62_code
def yX1_areTold : MethodName := ⟨RX1, "areTold", "()Z"⟩
def dkwX1_areTold_2 : List UInt8 := [167, 255, 213, 4, 172]
abbrev dktX1_areTold_2 : List UInt8 := dkwX1_areTold_2 ++ []
def dkwX1_areTold_1 : List UInt8 := [182, 0, 199, 42, 27, 28, 182, 1, 162, 159, 0, 5, 3, 172, 132, 2, 1, 167, 255, 227, 132, 1, 1]
abbrev dktX1_areTold_1 : List UInt8 := dkwX1_areTold_1 ++ dktX1_areTold_2
def dkwX1_areTold_0 : List UInt8 := [3, 60, 27, 16, 16, 162, 0, 43, 3, 61, 28, 16, 12, 162, 0, 29, 42, 180, 0, 72, 27, 28]
abbrev dktX1_areTold_0 : List UInt8 := dkwX1_areTold_0 ++ dktX1_areTold_1
theorem dksX1_areTold_0 : cX1_areTold.data.toList.drop 0 = dktX1_areTold_0 := by decide +kernel
theorem dksX1_areTold_1 : cX1_areTold.data.toList.drop 22 = dktX1_areTold_1 := dk_seg dksX1_areTold_0 22 rfl rfl
theorem dksX1_areTold_2 : cX1_areTold.data.toList.drop 45 = dktX1_areTold_2 := dk_seg dksX1_areTold_1 23 rfl rfl
theorem dX1_areTold_0 : decode cX1_areTold 0 = .ok (.iconst 0, 1) := dk_3 (dk_at dksX1_areTold_0 0 rfl rfl)
theorem dX1_areTold_1 : decode cX1_areTold 1 = .ok (.istore_n 1, 1) := dk_60 (dk_at dksX1_areTold_0 1 rfl rfl)
theorem dX1_areTold_2 : decode cX1_areTold 2 = .ok (.iload_n 1, 1) := dk_27 (dk_at dksX1_areTold_0 2 rfl rfl)
theorem dX1_areTold_3 : decode cX1_areTold 3 = .ok (.bipush 16, 2) := dk_16 16 (dk_at dksX1_areTold_0 3 rfl rfl)
theorem dX1_areTold_5 : decode cX1_areTold 5 = .ok (.if_icmp .ge 43, 3) := dk_162 0 43 (dk_at dksX1_areTold_0 5 rfl rfl)
theorem dX1_areTold_8 : decode cX1_areTold 8 = .ok (.iconst 0, 1) := dk_3 (dk_at dksX1_areTold_0 8 rfl rfl)
theorem dX1_areTold_9 : decode cX1_areTold 9 = .ok (.istore_n 2, 1) := dk_61 (dk_at dksX1_areTold_0 9 rfl rfl)
theorem dX1_areTold_10 : decode cX1_areTold 10 = .ok (.iload_n 2, 1) := dk_28 (dk_at dksX1_areTold_0 10 rfl rfl)
theorem dX1_areTold_11 : decode cX1_areTold 11 = .ok (.bipush 12, 2) := dk_16 12 (dk_at dksX1_areTold_0 11 rfl rfl)
theorem dX1_areTold_13 : decode cX1_areTold 13 = .ok (.if_icmp .ge 29, 3) := dk_162 0 29 (dk_at dksX1_areTold_0 13 rfl rfl)
theorem dX1_areTold_16 : decode cX1_areTold 16 = .ok (.aload_n 0, 1) := dk_42 (dk_at dksX1_areTold_0 16 rfl rfl)
theorem dX1_areTold_17 : decode cX1_areTold 17 = .ok (.getfield 72, 3) := dk_180 0 72 (dk_at dksX1_areTold_0 17 rfl rfl)
theorem dX1_areTold_20 : decode cX1_areTold 20 = .ok (.iload_n 1, 1) := dk_27 (dk_at dksX1_areTold_0 20 rfl rfl)
theorem dX1_areTold_21 : decode cX1_areTold 21 = .ok (.iload_n 2, 1) := dk_28 (dk_at dksX1_areTold_0 21 rfl rfl)
theorem dX1_areTold_22 : decode cX1_areTold 22 = .ok (.invokevirtual 199, 3) := dk_182 0 199 (dk_at dksX1_areTold_1 0 rfl rfl)
theorem dX1_areTold_25 : decode cX1_areTold 25 = .ok (.aload_n 0, 1) := dk_42 (dk_at dksX1_areTold_1 3 rfl rfl)
theorem dX1_areTold_26 : decode cX1_areTold 26 = .ok (.iload_n 1, 1) := dk_27 (dk_at dksX1_areTold_1 4 rfl rfl)
theorem dX1_areTold_27 : decode cX1_areTold 27 = .ok (.iload_n 2, 1) := dk_28 (dk_at dksX1_areTold_1 5 rfl rfl)
theorem dX1_areTold_28 : decode cX1_areTold 28 = .ok (.invokevirtual 418, 3) := dk_182 1 162 (dk_at dksX1_areTold_1 6 rfl rfl)
theorem dX1_areTold_31 : decode cX1_areTold 31 = .ok (.if_icmp .eq 5, 3) := dk_159 0 5 (dk_at dksX1_areTold_1 9 rfl rfl)
theorem dX1_areTold_34 : decode cX1_areTold 34 = .ok (.iconst 0, 1) := dk_3 (dk_at dksX1_areTold_1 12 rfl rfl)
theorem dX1_areTold_35 : decode cX1_areTold 35 = .ok (.ireturn, 1) := dk_172 (dk_at dksX1_areTold_1 13 rfl rfl)
theorem dX1_areTold_36 : decode cX1_areTold 36 = .ok (.iinc 2 1, 3) := dk_132 2 1 (dk_at dksX1_areTold_1 14 rfl rfl)
theorem dX1_areTold_39 : decode cX1_areTold 39 = .ok (.goto (-29), 3) := dk_167 255 227 (dk_at dksX1_areTold_1 17 rfl rfl)
theorem dX1_areTold_42 : decode cX1_areTold 42 = .ok (.iinc 1 1, 3) := dk_132 1 1 (dk_at dksX1_areTold_1 20 rfl rfl)
theorem dX1_areTold_45 : decode cX1_areTold 45 = .ok (.goto (-43), 3) := dk_167 255 213 (dk_at dksX1_areTold_2 0 rfl rfl)
theorem dX1_areTold_48 : decode cX1_areTold 48 = .ok (.iconst 1, 1) := dk_4 (dk_at dksX1_areTold_2 3 rfl rfl)
theorem dX1_areTold_49 : decode cX1_areTold 49 = .ok (.ireturn, 1) := dk_172 (dk_at dksX1_areTold_2 4 rfl rfl)
abbrev cX1_toldAlone : ByteArray := prog_1_method_61_code
def yX1_toldAlone : MethodName := ⟨RX1, "toldAlone", "(II)I"⟩
def dkwX1_toldAlone_7 : List UInt8 := [154, 0, 6, 167, 0, 10, 21, 5, 62, 21, 9, 54, 4, 132, 5, 255, 167, 255, 85, 29, 172]
abbrev dktX1_toldAlone_7 : List UInt8 := dkwX1_toldAlone_7 ++ []
def dkwX1_toldAlone_6 : List UInt8 := [167, 0, 12, 17, 3, 232, 21, 8, 104, 21, 7, 96, 54, 9, 21, 9, 21, 4, 161, 0, 18, 21, 8]
abbrev dktX1_toldAlone_6 : List UInt8 := dkwX1_toldAlone_6 ++ dktX1_toldAlone_7
def dkwX1_toldAlone_5 : List UInt8 := [154, 0, 8, 21, 6, 167, 0, 30, 42, 180, 0, 72, 180, 0, 207, 3, 46, 4, 160, 0, 8, 21, 7]
abbrev dktX1_toldAlone_5 : List UInt8 := dkwX1_toldAlone_5 ++ dktX1_toldAlone_6
def dkwX1_toldAlone_4 : List UInt8 := [184, 1, 58, 54, 7, 132, 8, 1, 132, 9, 255, 167, 255, 189, 42, 180, 0, 72, 180, 0, 207, 3, 46]
abbrev dktX1_toldAlone_4 : List UInt8 := dkwX1_toldAlone_4 ++ dktX1_toldAlone_5
def dkwX1_toldAlone_3 : List UInt8 := [154, 0, 6, 167, 0, 28, 21, 6, 25, 10, 180, 0, 184, 96, 54, 6, 21, 7, 25, 10, 180, 0, 184]
abbrev dktX1_toldAlone_3 : List UInt8 := dkwX1_toldAlone_3 ++ dktX1_toldAlone_4
def dkwX1_toldAlone_2 : List UInt8 := [21, 9, 182, 0, 244, 58, 10, 25, 10, 180, 1, 12, 21, 5, 160, 0, 41, 25, 10, 27, 28, 182, 1, 34]
abbrev dktX1_toldAlone_2 : List UInt8 := dkwX1_toldAlone_2 ++ dktX1_toldAlone_3
def dkwX1_toldAlone_1 : List UInt8 := [180, 0, 72, 180, 0, 18, 185, 0, 24, 1, 0, 4, 100, 54, 9, 21, 9, 155, 0, 68, 42, 180, 0, 72]
abbrev dktX1_toldAlone_1 : List UInt8 := dkwX1_toldAlone_1 ++ dktX1_toldAlone_2
def dkwX1_toldAlone_0 : List UInt8 := [2, 62, 3, 54, 4, 7, 54, 5, 21, 5, 155, 0, 172, 3, 54, 6, 3, 54, 7, 3, 54, 8, 42]
abbrev dktX1_toldAlone_0 : List UInt8 := dkwX1_toldAlone_0 ++ dktX1_toldAlone_1
theorem dksX1_toldAlone_0 : cX1_toldAlone.data.toList.drop 0 = dktX1_toldAlone_0 := by decide +kernel
theorem dksX1_toldAlone_1 : cX1_toldAlone.data.toList.drop 23 = dktX1_toldAlone_1 := dk_seg dksX1_toldAlone_0 23 rfl rfl
theorem dksX1_toldAlone_2 : cX1_toldAlone.data.toList.drop 47 = dktX1_toldAlone_2 := dk_seg dksX1_toldAlone_1 24 rfl rfl
theorem dksX1_toldAlone_3 : cX1_toldAlone.data.toList.drop 71 = dktX1_toldAlone_3 := dk_seg dksX1_toldAlone_2 24 rfl rfl
theorem dksX1_toldAlone_4 : cX1_toldAlone.data.toList.drop 94 = dktX1_toldAlone_4 := dk_seg dksX1_toldAlone_3 23 rfl rfl
theorem dksX1_toldAlone_5 : cX1_toldAlone.data.toList.drop 117 = dktX1_toldAlone_5 := dk_seg dksX1_toldAlone_4 23 rfl rfl
theorem dksX1_toldAlone_6 : cX1_toldAlone.data.toList.drop 140 = dktX1_toldAlone_6 := dk_seg dksX1_toldAlone_5 23 rfl rfl
theorem dksX1_toldAlone_7 : cX1_toldAlone.data.toList.drop 163 = dktX1_toldAlone_7 := dk_seg dksX1_toldAlone_6 23 rfl rfl
theorem dX1_toldAlone_0 : decode cX1_toldAlone 0 = .ok (.iconst (-1), 1) := dk_2 (dk_at dksX1_toldAlone_0 0 rfl rfl)
theorem dX1_toldAlone_1 : decode cX1_toldAlone 1 = .ok (.istore_n 3, 1) := dk_62 (dk_at dksX1_toldAlone_0 1 rfl rfl)
theorem dX1_toldAlone_2 : decode cX1_toldAlone 2 = .ok (.iconst 0, 1) := dk_3 (dk_at dksX1_toldAlone_0 2 rfl rfl)
theorem dX1_toldAlone_3 : decode cX1_toldAlone 3 = .ok (.istore 4, 2) := dk_54 4 (dk_at dksX1_toldAlone_0 3 rfl rfl)
theorem dX1_toldAlone_5 : decode cX1_toldAlone 5 = .ok (.iconst 4, 1) := dk_7 (dk_at dksX1_toldAlone_0 5 rfl rfl)
theorem dX1_toldAlone_6 : decode cX1_toldAlone 6 = .ok (.istore 5, 2) := dk_54 5 (dk_at dksX1_toldAlone_0 6 rfl rfl)
theorem dX1_toldAlone_8 : decode cX1_toldAlone 8 = .ok (.iload 5, 2) := dk_21 5 (dk_at dksX1_toldAlone_0 8 rfl rfl)
theorem dX1_toldAlone_10 : decode cX1_toldAlone 10 = .ok (.ifCond .lt 172, 3) := dk_155 0 172 (dk_at dksX1_toldAlone_0 10 rfl rfl)
theorem dX1_toldAlone_13 : decode cX1_toldAlone 13 = .ok (.iconst 0, 1) := dk_3 (dk_at dksX1_toldAlone_0 13 rfl rfl)
theorem dX1_toldAlone_14 : decode cX1_toldAlone 14 = .ok (.istore 6, 2) := dk_54 6 (dk_at dksX1_toldAlone_0 14 rfl rfl)
theorem dX1_toldAlone_16 : decode cX1_toldAlone 16 = .ok (.iconst 0, 1) := dk_3 (dk_at dksX1_toldAlone_0 16 rfl rfl)
theorem dX1_toldAlone_17 : decode cX1_toldAlone 17 = .ok (.istore 7, 2) := dk_54 7 (dk_at dksX1_toldAlone_0 17 rfl rfl)
theorem dX1_toldAlone_19 : decode cX1_toldAlone 19 = .ok (.iconst 0, 1) := dk_3 (dk_at dksX1_toldAlone_0 19 rfl rfl)
theorem dX1_toldAlone_20 : decode cX1_toldAlone 20 = .ok (.istore 8, 2) := dk_54 8 (dk_at dksX1_toldAlone_0 20 rfl rfl)
theorem dX1_toldAlone_22 : decode cX1_toldAlone 22 = .ok (.aload_n 0, 1) := dk_42 (dk_at dksX1_toldAlone_0 22 rfl rfl)
theorem dX1_toldAlone_23 : decode cX1_toldAlone 23 = .ok (.getfield 72, 3) := dk_180 0 72 (dk_at dksX1_toldAlone_1 0 rfl rfl)
theorem dX1_toldAlone_26 : decode cX1_toldAlone 26 = .ok (.getfield 18, 3) := dk_180 0 18 (dk_at dksX1_toldAlone_1 3 rfl rfl)
theorem dX1_toldAlone_29 : decode cX1_toldAlone 29 = .ok (.invokeinterface 24 1, 5) := by decide +kernel
theorem dX1_toldAlone_34 : decode cX1_toldAlone 34 = .ok (.iconst 1, 1) := dk_4 (dk_at dksX1_toldAlone_1 11 rfl rfl)
theorem dX1_toldAlone_35 : decode cX1_toldAlone 35 = .ok (.isub, 1) := dk_100 (dk_at dksX1_toldAlone_1 12 rfl rfl)
theorem dX1_toldAlone_36 : decode cX1_toldAlone 36 = .ok (.istore 9, 2) := dk_54 9 (dk_at dksX1_toldAlone_1 13 rfl rfl)
theorem dX1_toldAlone_38 : decode cX1_toldAlone 38 = .ok (.iload 9, 2) := dk_21 9 (dk_at dksX1_toldAlone_1 15 rfl rfl)
theorem dX1_toldAlone_40 : decode cX1_toldAlone 40 = .ok (.ifCond .lt 68, 3) := dk_155 0 68 (dk_at dksX1_toldAlone_1 17 rfl rfl)
theorem dX1_toldAlone_43 : decode cX1_toldAlone 43 = .ok (.aload_n 0, 1) := dk_42 (dk_at dksX1_toldAlone_1 20 rfl rfl)
theorem dX1_toldAlone_44 : decode cX1_toldAlone 44 = .ok (.getfield 72, 3) := dk_180 0 72 (dk_at dksX1_toldAlone_1 21 rfl rfl)
theorem dX1_toldAlone_47 : decode cX1_toldAlone 47 = .ok (.iload 9, 2) := dk_21 9 (dk_at dksX1_toldAlone_2 0 rfl rfl)
theorem dX1_toldAlone_49 : decode cX1_toldAlone 49 = .ok (.invokevirtual 244, 3) := dk_182 0 244 (dk_at dksX1_toldAlone_2 2 rfl rfl)
theorem dX1_toldAlone_52 : decode cX1_toldAlone 52 = .ok (.astore 10, 2) := dk_58 10 (dk_at dksX1_toldAlone_2 5 rfl rfl)
theorem dX1_toldAlone_54 : decode cX1_toldAlone 54 = .ok (.aload 10, 2) := dk_25 10 (dk_at dksX1_toldAlone_2 7 rfl rfl)
theorem dX1_toldAlone_56 : decode cX1_toldAlone 56 = .ok (.getfield 268, 3) := dk_180 1 12 (dk_at dksX1_toldAlone_2 9 rfl rfl)
theorem dX1_toldAlone_59 : decode cX1_toldAlone 59 = .ok (.iload 5, 2) := dk_21 5 (dk_at dksX1_toldAlone_2 12 rfl rfl)
theorem dX1_toldAlone_61 : decode cX1_toldAlone 61 = .ok (.if_icmp .ne 41, 3) := dk_160 0 41 (dk_at dksX1_toldAlone_2 14 rfl rfl)
theorem dX1_toldAlone_64 : decode cX1_toldAlone 64 = .ok (.aload 10, 2) := dk_25 10 (dk_at dksX1_toldAlone_2 17 rfl rfl)
theorem dX1_toldAlone_66 : decode cX1_toldAlone 66 = .ok (.iload_n 1, 1) := dk_27 (dk_at dksX1_toldAlone_2 19 rfl rfl)
theorem dX1_toldAlone_67 : decode cX1_toldAlone 67 = .ok (.iload_n 2, 1) := dk_28 (dk_at dksX1_toldAlone_2 20 rfl rfl)
theorem dX1_toldAlone_68 : decode cX1_toldAlone 68 = .ok (.invokevirtual 290, 3) := dk_182 1 34 (dk_at dksX1_toldAlone_2 21 rfl rfl)
theorem dX1_toldAlone_71 : decode cX1_toldAlone 71 = .ok (.ifCond .ne 6, 3) := dk_154 0 6 (dk_at dksX1_toldAlone_3 0 rfl rfl)
theorem dX1_toldAlone_74 : decode cX1_toldAlone 74 = .ok (.goto 28, 3) := dk_167 0 28 (dk_at dksX1_toldAlone_3 3 rfl rfl)
theorem dX1_toldAlone_77 : decode cX1_toldAlone 77 = .ok (.iload 6, 2) := dk_21 6 (dk_at dksX1_toldAlone_3 6 rfl rfl)
theorem dX1_toldAlone_79 : decode cX1_toldAlone 79 = .ok (.aload 10, 2) := dk_25 10 (dk_at dksX1_toldAlone_3 8 rfl rfl)
theorem dX1_toldAlone_81 : decode cX1_toldAlone 81 = .ok (.getfield 184, 3) := dk_180 0 184 (dk_at dksX1_toldAlone_3 10 rfl rfl)
theorem dX1_toldAlone_84 : decode cX1_toldAlone 84 = .ok (.iadd, 1) := dk_96 (dk_at dksX1_toldAlone_3 13 rfl rfl)
theorem dX1_toldAlone_85 : decode cX1_toldAlone 85 = .ok (.istore 6, 2) := dk_54 6 (dk_at dksX1_toldAlone_3 14 rfl rfl)
theorem dX1_toldAlone_87 : decode cX1_toldAlone 87 = .ok (.iload 7, 2) := dk_21 7 (dk_at dksX1_toldAlone_3 16 rfl rfl)
theorem dX1_toldAlone_89 : decode cX1_toldAlone 89 = .ok (.aload 10, 2) := dk_25 10 (dk_at dksX1_toldAlone_3 18 rfl rfl)
theorem dX1_toldAlone_91 : decode cX1_toldAlone 91 = .ok (.getfield 184, 3) := dk_180 0 184 (dk_at dksX1_toldAlone_3 20 rfl rfl)
theorem dX1_toldAlone_94 : decode cX1_toldAlone 94 = .ok (.invokestatic 314, 3) := dk_184 1 58 (dk_at dksX1_toldAlone_4 0 rfl rfl)
theorem dX1_toldAlone_97 : decode cX1_toldAlone 97 = .ok (.istore 7, 2) := dk_54 7 (dk_at dksX1_toldAlone_4 3 rfl rfl)
theorem dX1_toldAlone_99 : decode cX1_toldAlone 99 = .ok (.iinc 8 1, 3) := dk_132 8 1 (dk_at dksX1_toldAlone_4 5 rfl rfl)
theorem dX1_toldAlone_102 : decode cX1_toldAlone 102 = .ok (.iinc 9 (-1), 3) := dk_132 9 255 (dk_at dksX1_toldAlone_4 8 rfl rfl)
theorem dX1_toldAlone_105 : decode cX1_toldAlone 105 = .ok (.goto (-67), 3) := dk_167 255 189 (dk_at dksX1_toldAlone_4 11 rfl rfl)
theorem dX1_toldAlone_108 : decode cX1_toldAlone 108 = .ok (.aload_n 0, 1) := dk_42 (dk_at dksX1_toldAlone_4 14 rfl rfl)
theorem dX1_toldAlone_109 : decode cX1_toldAlone 109 = .ok (.getfield 72, 3) := dk_180 0 72 (dk_at dksX1_toldAlone_4 15 rfl rfl)
theorem dX1_toldAlone_112 : decode cX1_toldAlone 112 = .ok (.getfield 207, 3) := dk_180 0 207 (dk_at dksX1_toldAlone_4 18 rfl rfl)
theorem dX1_toldAlone_115 : decode cX1_toldAlone 115 = .ok (.iconst 0, 1) := dk_3 (dk_at dksX1_toldAlone_4 21 rfl rfl)
theorem dX1_toldAlone_116 : decode cX1_toldAlone 116 = .ok (.iaload, 1) := dk_46 (dk_at dksX1_toldAlone_4 22 rfl rfl)
theorem dX1_toldAlone_117 : decode cX1_toldAlone 117 = .ok (.ifCond .ne 8, 3) := dk_154 0 8 (dk_at dksX1_toldAlone_5 0 rfl rfl)
theorem dX1_toldAlone_120 : decode cX1_toldAlone 120 = .ok (.iload 6, 2) := dk_21 6 (dk_at dksX1_toldAlone_5 3 rfl rfl)
theorem dX1_toldAlone_122 : decode cX1_toldAlone 122 = .ok (.goto 30, 3) := dk_167 0 30 (dk_at dksX1_toldAlone_5 5 rfl rfl)
theorem dX1_toldAlone_125 : decode cX1_toldAlone 125 = .ok (.aload_n 0, 1) := dk_42 (dk_at dksX1_toldAlone_5 8 rfl rfl)
theorem dX1_toldAlone_126 : decode cX1_toldAlone 126 = .ok (.getfield 72, 3) := dk_180 0 72 (dk_at dksX1_toldAlone_5 9 rfl rfl)
theorem dX1_toldAlone_129 : decode cX1_toldAlone 129 = .ok (.getfield 207, 3) := dk_180 0 207 (dk_at dksX1_toldAlone_5 12 rfl rfl)
theorem dX1_toldAlone_132 : decode cX1_toldAlone 132 = .ok (.iconst 0, 1) := dk_3 (dk_at dksX1_toldAlone_5 15 rfl rfl)
theorem dX1_toldAlone_133 : decode cX1_toldAlone 133 = .ok (.iaload, 1) := dk_46 (dk_at dksX1_toldAlone_5 16 rfl rfl)
theorem dX1_toldAlone_134 : decode cX1_toldAlone 134 = .ok (.iconst 1, 1) := dk_4 (dk_at dksX1_toldAlone_5 17 rfl rfl)
theorem dX1_toldAlone_135 : decode cX1_toldAlone 135 = .ok (.if_icmp .ne 8, 3) := dk_160 0 8 (dk_at dksX1_toldAlone_5 18 rfl rfl)
theorem dX1_toldAlone_138 : decode cX1_toldAlone 138 = .ok (.iload 7, 2) := dk_21 7 (dk_at dksX1_toldAlone_5 21 rfl rfl)
theorem dX1_toldAlone_140 : decode cX1_toldAlone 140 = .ok (.goto 12, 3) := dk_167 0 12 (dk_at dksX1_toldAlone_6 0 rfl rfl)
theorem dX1_toldAlone_143 : decode cX1_toldAlone 143 = .ok (.sipush 1000, 3) := dk_17 3 232 (dk_at dksX1_toldAlone_6 3 rfl rfl)
theorem dX1_toldAlone_146 : decode cX1_toldAlone 146 = .ok (.iload 8, 2) := dk_21 8 (dk_at dksX1_toldAlone_6 6 rfl rfl)
theorem dX1_toldAlone_148 : decode cX1_toldAlone 148 = .ok (.imul, 1) := dk_104 (dk_at dksX1_toldAlone_6 8 rfl rfl)
theorem dX1_toldAlone_149 : decode cX1_toldAlone 149 = .ok (.iload 7, 2) := dk_21 7 (dk_at dksX1_toldAlone_6 9 rfl rfl)
theorem dX1_toldAlone_151 : decode cX1_toldAlone 151 = .ok (.iadd, 1) := dk_96 (dk_at dksX1_toldAlone_6 11 rfl rfl)
theorem dX1_toldAlone_152 : decode cX1_toldAlone 152 = .ok (.istore 9, 2) := dk_54 9 (dk_at dksX1_toldAlone_6 12 rfl rfl)
theorem dX1_toldAlone_154 : decode cX1_toldAlone 154 = .ok (.iload 9, 2) := dk_21 9 (dk_at dksX1_toldAlone_6 14 rfl rfl)
theorem dX1_toldAlone_156 : decode cX1_toldAlone 156 = .ok (.iload 4, 2) := dk_21 4 (dk_at dksX1_toldAlone_6 16 rfl rfl)
theorem dX1_toldAlone_158 : decode cX1_toldAlone 158 = .ok (.if_icmp .lt 18, 3) := dk_161 0 18 (dk_at dksX1_toldAlone_6 18 rfl rfl)
theorem dX1_toldAlone_161 : decode cX1_toldAlone 161 = .ok (.iload 8, 2) := dk_21 8 (dk_at dksX1_toldAlone_6 21 rfl rfl)
theorem dX1_toldAlone_163 : decode cX1_toldAlone 163 = .ok (.ifCond .ne 6, 3) := dk_154 0 6 (dk_at dksX1_toldAlone_7 0 rfl rfl)
theorem dX1_toldAlone_166 : decode cX1_toldAlone 166 = .ok (.goto 10, 3) := dk_167 0 10 (dk_at dksX1_toldAlone_7 3 rfl rfl)
theorem dX1_toldAlone_169 : decode cX1_toldAlone 169 = .ok (.iload 5, 2) := dk_21 5 (dk_at dksX1_toldAlone_7 6 rfl rfl)
theorem dX1_toldAlone_171 : decode cX1_toldAlone 171 = .ok (.istore_n 3, 1) := dk_62 (dk_at dksX1_toldAlone_7 8 rfl rfl)
theorem dX1_toldAlone_172 : decode cX1_toldAlone 172 = .ok (.iload 9, 2) := dk_21 9 (dk_at dksX1_toldAlone_7 9 rfl rfl)
theorem dX1_toldAlone_174 : decode cX1_toldAlone 174 = .ok (.istore 4, 2) := dk_54 4 (dk_at dksX1_toldAlone_7 11 rfl rfl)
theorem dX1_toldAlone_176 : decode cX1_toldAlone 176 = .ok (.iinc 5 (-1), 3) := dk_132 5 255 (dk_at dksX1_toldAlone_7 13 rfl rfl)
theorem dX1_toldAlone_179 : decode cX1_toldAlone 179 = .ok (.goto (-171), 3) := dk_167 255 85 (dk_at dksX1_toldAlone_7 16 rfl rfl)
theorem dX1_toldAlone_182 : decode cX1_toldAlone 182 = .ok (.iload_n 3, 1) := dk_29 (dk_at dksX1_toldAlone_7 19 rfl rfl)
theorem dX1_toldAlone_183 : decode cX1_toldAlone 183 = .ok (.ireturn, 1) := dk_172 (dk_at dksX1_toldAlone_7 20 rfl rfl)
abbrev cX1_areProverbs : ByteArray := prog_1_method_63_code
def yX1_areProverbs : MethodName := ⟨RX1, "areProverbs", "()Z"⟩
def dkwX1_areProverbs_4 : List UInt8 := [8, 46, 160, 0, 7, 4, 167, 0, 4, 3, 172]
abbrev dktX1_areProverbs_4 : List UInt8 := dkwX1_areProverbs_4 ++ []
def dkwX1_areProverbs_3 : List UInt8 := [167, 255, 202, 27, 42, 180, 0, 72, 180, 0, 34, 7, 46, 160, 0, 20, 28, 42, 180, 0, 72, 180, 0, 34]
abbrev dktX1_areProverbs_3 : List UInt8 := dkwX1_areProverbs_3 ++ dktX1_areProverbs_4
def dkwX1_areProverbs_2 : List UInt8 := [184, 0, 105, 154, 0, 5, 3, 172, 27, 25, 4, 180, 1, 18, 96, 60, 28, 25, 4, 180, 1, 21, 96, 61]
abbrev dktX1_areProverbs_2 : List UInt8 := dkwX1_areProverbs_2 ++ dktX1_areProverbs_3
def dkwX1_areProverbs_1 : List UInt8 := [153, 0, 51, 45, 185, 0, 174, 1, 0, 192, 0, 178, 58, 4, 25, 4, 180, 0, 184, 133, 10, 20, 1, 165]
abbrev dktX1_areProverbs_1 : List UInt8 := dkwX1_areProverbs_1 ++ dktX1_areProverbs_2
def dkwX1_areProverbs_0 : List UInt8 := [3, 60, 3, 61, 42, 180, 0, 72, 180, 0, 18, 185, 0, 164, 1, 0, 78, 45, 185, 0, 168, 1, 0]
abbrev dktX1_areProverbs_0 : List UInt8 := dkwX1_areProverbs_0 ++ dktX1_areProverbs_1
theorem dksX1_areProverbs_0 : cX1_areProverbs.data.toList.drop 0 = dktX1_areProverbs_0 := by decide +kernel
theorem dksX1_areProverbs_1 : cX1_areProverbs.data.toList.drop 23 = dktX1_areProverbs_1 := dk_seg dksX1_areProverbs_0 23 rfl rfl
theorem dksX1_areProverbs_2 : cX1_areProverbs.data.toList.drop 47 = dktX1_areProverbs_2 := dk_seg dksX1_areProverbs_1 24 rfl rfl
theorem dksX1_areProverbs_3 : cX1_areProverbs.data.toList.drop 71 = dktX1_areProverbs_3 := dk_seg dksX1_areProverbs_2 24 rfl rfl
theorem dksX1_areProverbs_4 : cX1_areProverbs.data.toList.drop 95 = dktX1_areProverbs_4 := dk_seg dksX1_areProverbs_3 24 rfl rfl
theorem dX1_areProverbs_0 : decode cX1_areProverbs 0 = .ok (.iconst 0, 1) := dk_3 (dk_at dksX1_areProverbs_0 0 rfl rfl)
theorem dX1_areProverbs_1 : decode cX1_areProverbs 1 = .ok (.istore_n 1, 1) := dk_60 (dk_at dksX1_areProverbs_0 1 rfl rfl)
theorem dX1_areProverbs_2 : decode cX1_areProverbs 2 = .ok (.iconst 0, 1) := dk_3 (dk_at dksX1_areProverbs_0 2 rfl rfl)
theorem dX1_areProverbs_3 : decode cX1_areProverbs 3 = .ok (.istore_n 2, 1) := dk_61 (dk_at dksX1_areProverbs_0 3 rfl rfl)
theorem dX1_areProverbs_4 : decode cX1_areProverbs 4 = .ok (.aload_n 0, 1) := dk_42 (dk_at dksX1_areProverbs_0 4 rfl rfl)
theorem dX1_areProverbs_5 : decode cX1_areProverbs 5 = .ok (.getfield 72, 3) := dk_180 0 72 (dk_at dksX1_areProverbs_0 5 rfl rfl)
theorem dX1_areProverbs_8 : decode cX1_areProverbs 8 = .ok (.getfield 18, 3) := dk_180 0 18 (dk_at dksX1_areProverbs_0 8 rfl rfl)
theorem dX1_areProverbs_11 : decode cX1_areProverbs 11 = .ok (.invokeinterface 164 1, 5) := by decide +kernel
theorem dX1_areProverbs_16 : decode cX1_areProverbs 16 = .ok (.astore_n 3, 1) := dk_78 (dk_at dksX1_areProverbs_0 16 rfl rfl)
theorem dX1_areProverbs_17 : decode cX1_areProverbs 17 = .ok (.aload_n 3, 1) := dk_45 (dk_at dksX1_areProverbs_0 17 rfl rfl)
theorem dX1_areProverbs_18 : decode cX1_areProverbs 18 = .ok (.invokeinterface 168 1, 5) := by decide +kernel
theorem dX1_areProverbs_23 : decode cX1_areProverbs 23 = .ok (.ifCond .eq 51, 3) := dk_153 0 51 (dk_at dksX1_areProverbs_1 0 rfl rfl)
theorem dX1_areProverbs_26 : decode cX1_areProverbs 26 = .ok (.aload_n 3, 1) := dk_45 (dk_at dksX1_areProverbs_1 3 rfl rfl)
theorem dX1_areProverbs_27 : decode cX1_areProverbs 27 = .ok (.invokeinterface 174 1, 5) := by decide +kernel
theorem dX1_areProverbs_32 : decode cX1_areProverbs 32 = .ok (.checkcast 178, 3) := dk_192 0 178 (dk_at dksX1_areProverbs_1 9 rfl rfl)
theorem dX1_areProverbs_35 : decode cX1_areProverbs 35 = .ok (.astore 4, 2) := dk_58 4 (dk_at dksX1_areProverbs_1 12 rfl rfl)
theorem dX1_areProverbs_37 : decode cX1_areProverbs 37 = .ok (.aload 4, 2) := dk_25 4 (dk_at dksX1_areProverbs_1 14 rfl rfl)
theorem dX1_areProverbs_39 : decode cX1_areProverbs 39 = .ok (.getfield 184, 3) := dk_180 0 184 (dk_at dksX1_areProverbs_1 16 rfl rfl)
theorem dX1_areProverbs_42 : decode cX1_areProverbs 42 = .ok (.i2l, 1) := dk_133 (dk_at dksX1_areProverbs_1 19 rfl rfl)
theorem dX1_areProverbs_43 : decode cX1_areProverbs 43 = .ok (.lconst 1, 1) := dk_10 (dk_at dksX1_areProverbs_1 20 rfl rfl)
theorem dX1_areProverbs_44 : decode cX1_areProverbs 44 = .ok (.ldc2_w 421, 3) := dk_20 1 165 (dk_at dksX1_areProverbs_1 21 rfl rfl)
theorem dX1_areProverbs_47 : decode cX1_areProverbs 47 = .ok (.invokestatic 105, 3) := dk_184 0 105 (dk_at dksX1_areProverbs_2 0 rfl rfl)
theorem dX1_areProverbs_50 : decode cX1_areProverbs 50 = .ok (.ifCond .ne 5, 3) := dk_154 0 5 (dk_at dksX1_areProverbs_2 3 rfl rfl)
theorem dX1_areProverbs_53 : decode cX1_areProverbs 53 = .ok (.iconst 0, 1) := dk_3 (dk_at dksX1_areProverbs_2 6 rfl rfl)
theorem dX1_areProverbs_54 : decode cX1_areProverbs 54 = .ok (.ireturn, 1) := dk_172 (dk_at dksX1_areProverbs_2 7 rfl rfl)
theorem dX1_areProverbs_55 : decode cX1_areProverbs 55 = .ok (.iload_n 1, 1) := dk_27 (dk_at dksX1_areProverbs_2 8 rfl rfl)
theorem dX1_areProverbs_56 : decode cX1_areProverbs 56 = .ok (.aload 4, 2) := dk_25 4 (dk_at dksX1_areProverbs_2 9 rfl rfl)
theorem dX1_areProverbs_58 : decode cX1_areProverbs 58 = .ok (.getfield 274, 3) := dk_180 1 18 (dk_at dksX1_areProverbs_2 11 rfl rfl)
theorem dX1_areProverbs_61 : decode cX1_areProverbs 61 = .ok (.iadd, 1) := dk_96 (dk_at dksX1_areProverbs_2 14 rfl rfl)
theorem dX1_areProverbs_62 : decode cX1_areProverbs 62 = .ok (.istore_n 1, 1) := dk_60 (dk_at dksX1_areProverbs_2 15 rfl rfl)
theorem dX1_areProverbs_63 : decode cX1_areProverbs 63 = .ok (.iload_n 2, 1) := dk_28 (dk_at dksX1_areProverbs_2 16 rfl rfl)
theorem dX1_areProverbs_64 : decode cX1_areProverbs 64 = .ok (.aload 4, 2) := dk_25 4 (dk_at dksX1_areProverbs_2 17 rfl rfl)
theorem dX1_areProverbs_66 : decode cX1_areProverbs 66 = .ok (.getfield 277, 3) := dk_180 1 21 (dk_at dksX1_areProverbs_2 19 rfl rfl)
theorem dX1_areProverbs_69 : decode cX1_areProverbs 69 = .ok (.iadd, 1) := dk_96 (dk_at dksX1_areProverbs_2 22 rfl rfl)
theorem dX1_areProverbs_70 : decode cX1_areProverbs 70 = .ok (.istore_n 2, 1) := dk_61 (dk_at dksX1_areProverbs_2 23 rfl rfl)
theorem dX1_areProverbs_71 : decode cX1_areProverbs 71 = .ok (.goto (-54), 3) := dk_167 255 202 (dk_at dksX1_areProverbs_3 0 rfl rfl)
theorem dX1_areProverbs_74 : decode cX1_areProverbs 74 = .ok (.iload_n 1, 1) := dk_27 (dk_at dksX1_areProverbs_3 3 rfl rfl)
theorem dX1_areProverbs_75 : decode cX1_areProverbs 75 = .ok (.aload_n 0, 1) := dk_42 (dk_at dksX1_areProverbs_3 4 rfl rfl)
theorem dX1_areProverbs_76 : decode cX1_areProverbs 76 = .ok (.getfield 72, 3) := dk_180 0 72 (dk_at dksX1_areProverbs_3 5 rfl rfl)
theorem dX1_areProverbs_79 : decode cX1_areProverbs 79 = .ok (.getfield 34, 3) := dk_180 0 34 (dk_at dksX1_areProverbs_3 8 rfl rfl)
theorem dX1_areProverbs_82 : decode cX1_areProverbs 82 = .ok (.iconst 4, 1) := dk_7 (dk_at dksX1_areProverbs_3 11 rfl rfl)
theorem dX1_areProverbs_83 : decode cX1_areProverbs 83 = .ok (.iaload, 1) := dk_46 (dk_at dksX1_areProverbs_3 12 rfl rfl)
theorem dX1_areProverbs_84 : decode cX1_areProverbs 84 = .ok (.if_icmp .ne 20, 3) := dk_160 0 20 (dk_at dksX1_areProverbs_3 13 rfl rfl)
theorem dX1_areProverbs_87 : decode cX1_areProverbs 87 = .ok (.iload_n 2, 1) := dk_28 (dk_at dksX1_areProverbs_3 16 rfl rfl)
theorem dX1_areProverbs_88 : decode cX1_areProverbs 88 = .ok (.aload_n 0, 1) := dk_42 (dk_at dksX1_areProverbs_3 17 rfl rfl)
theorem dX1_areProverbs_89 : decode cX1_areProverbs 89 = .ok (.getfield 72, 3) := dk_180 0 72 (dk_at dksX1_areProverbs_3 18 rfl rfl)
theorem dX1_areProverbs_92 : decode cX1_areProverbs 92 = .ok (.getfield 34, 3) := dk_180 0 34 (dk_at dksX1_areProverbs_3 21 rfl rfl)
theorem dX1_areProverbs_95 : decode cX1_areProverbs 95 = .ok (.iconst 5, 1) := dk_8 (dk_at dksX1_areProverbs_4 0 rfl rfl)
theorem dX1_areProverbs_96 : decode cX1_areProverbs 96 = .ok (.iaload, 1) := dk_46 (dk_at dksX1_areProverbs_4 1 rfl rfl)
theorem dX1_areProverbs_97 : decode cX1_areProverbs 97 = .ok (.if_icmp .ne 7, 3) := dk_160 0 7 (dk_at dksX1_areProverbs_4 2 rfl rfl)
theorem dX1_areProverbs_100 : decode cX1_areProverbs 100 = .ok (.iconst 1, 1) := dk_4 (dk_at dksX1_areProverbs_4 5 rfl rfl)
theorem dX1_areProverbs_101 : decode cX1_areProverbs 101 = .ok (.goto 4, 3) := dk_167 0 4 (dk_at dksX1_areProverbs_4 6 rfl rfl)
theorem dX1_areProverbs_104 : decode cX1_areProverbs 104 = .ok (.iconst 0, 1) := dk_3 (dk_at dksX1_areProverbs_4 9 rfl rfl)
theorem dX1_areProverbs_105 : decode cX1_areProverbs 105 = .ok (.ireturn, 1) := dk_172 (dk_at dksX1_areProverbs_4 10 rfl rfl)
abbrev cX1_arePairs : ByteArray := prog_1_method_64_code
def yX1_arePairs : MethodName := ⟨RX1, "arePairs", "()Z"⟩
def dkwX1_arePairs_4 : List UInt8 := [167, 255, 165, 4, 172]
abbrev dktX1_arePairs_4 : List UInt8 := dkwX1_arePairs_4 ++ []
def dkwX1_arePairs_3 : List UInt8 := [16, 24, 28, 104, 27, 96, 53, 96, 29, 164, 0, 5, 3, 172, 132, 2, 1, 167, 255, 179, 132, 1, 1]
abbrev dktX1_arePairs_3 : List UInt8 := dkwX1_arePairs_3 ++ dktX1_arePairs_4
def dkwX1_arePairs_2 : List UInt8 := [160, 0, 36, 42, 180, 0, 72, 180, 1, 81, 16, 24, 27, 104, 28, 96, 53, 42, 180, 0, 72, 180, 1, 81]
abbrev dktX1_arePairs_2 : List UInt8 := dkwX1_arePairs_2 ++ dktX1_arePairs_3
def dkwX1_arePairs_1 : List UInt8 := [16, 24, 27, 104, 28, 96, 53, 62, 29, 42, 180, 0, 72, 180, 1, 74, 16, 24, 28, 104, 27, 96, 53]
abbrev dktX1_arePairs_1 : List UInt8 := dkwX1_arePairs_1 ++ dktX1_arePairs_2
def dkwX1_arePairs_0 : List UInt8 := [3, 60, 27, 16, 24, 162, 0, 91, 3, 61, 28, 16, 24, 162, 0, 77, 42, 180, 0, 72, 180, 1, 74]
abbrev dktX1_arePairs_0 : List UInt8 := dkwX1_arePairs_0 ++ dktX1_arePairs_1
theorem dksX1_arePairs_0 : cX1_arePairs.data.toList.drop 0 = dktX1_arePairs_0 := by decide +kernel
theorem dksX1_arePairs_1 : cX1_arePairs.data.toList.drop 23 = dktX1_arePairs_1 := dk_seg dksX1_arePairs_0 23 rfl rfl
theorem dksX1_arePairs_2 : cX1_arePairs.data.toList.drop 46 = dktX1_arePairs_2 := dk_seg dksX1_arePairs_1 23 rfl rfl
theorem dksX1_arePairs_3 : cX1_arePairs.data.toList.drop 70 = dktX1_arePairs_3 := dk_seg dksX1_arePairs_2 24 rfl rfl
theorem dksX1_arePairs_4 : cX1_arePairs.data.toList.drop 93 = dktX1_arePairs_4 := dk_seg dksX1_arePairs_3 23 rfl rfl
theorem dX1_arePairs_0 : decode cX1_arePairs 0 = .ok (.iconst 0, 1) := dk_3 (dk_at dksX1_arePairs_0 0 rfl rfl)
theorem dX1_arePairs_1 : decode cX1_arePairs 1 = .ok (.istore_n 1, 1) := dk_60 (dk_at dksX1_arePairs_0 1 rfl rfl)
theorem dX1_arePairs_2 : decode cX1_arePairs 2 = .ok (.iload_n 1, 1) := dk_27 (dk_at dksX1_arePairs_0 2 rfl rfl)
theorem dX1_arePairs_3 : decode cX1_arePairs 3 = .ok (.bipush 24, 2) := dk_16 24 (dk_at dksX1_arePairs_0 3 rfl rfl)
theorem dX1_arePairs_5 : decode cX1_arePairs 5 = .ok (.if_icmp .ge 91, 3) := dk_162 0 91 (dk_at dksX1_arePairs_0 5 rfl rfl)
theorem dX1_arePairs_8 : decode cX1_arePairs 8 = .ok (.iconst 0, 1) := dk_3 (dk_at dksX1_arePairs_0 8 rfl rfl)
theorem dX1_arePairs_9 : decode cX1_arePairs 9 = .ok (.istore_n 2, 1) := dk_61 (dk_at dksX1_arePairs_0 9 rfl rfl)
theorem dX1_arePairs_10 : decode cX1_arePairs 10 = .ok (.iload_n 2, 1) := dk_28 (dk_at dksX1_arePairs_0 10 rfl rfl)
theorem dX1_arePairs_11 : decode cX1_arePairs 11 = .ok (.bipush 24, 2) := dk_16 24 (dk_at dksX1_arePairs_0 11 rfl rfl)
theorem dX1_arePairs_13 : decode cX1_arePairs 13 = .ok (.if_icmp .ge 77, 3) := dk_162 0 77 (dk_at dksX1_arePairs_0 13 rfl rfl)
theorem dX1_arePairs_16 : decode cX1_arePairs 16 = .ok (.aload_n 0, 1) := dk_42 (dk_at dksX1_arePairs_0 16 rfl rfl)
theorem dX1_arePairs_17 : decode cX1_arePairs 17 = .ok (.getfield 72, 3) := dk_180 0 72 (dk_at dksX1_arePairs_0 17 rfl rfl)
theorem dX1_arePairs_20 : decode cX1_arePairs 20 = .ok (.getfield 330, 3) := dk_180 1 74 (dk_at dksX1_arePairs_0 20 rfl rfl)
theorem dX1_arePairs_23 : decode cX1_arePairs 23 = .ok (.bipush 24, 2) := dk_16 24 (dk_at dksX1_arePairs_1 0 rfl rfl)
theorem dX1_arePairs_25 : decode cX1_arePairs 25 = .ok (.iload_n 1, 1) := dk_27 (dk_at dksX1_arePairs_1 2 rfl rfl)
theorem dX1_arePairs_26 : decode cX1_arePairs 26 = .ok (.imul, 1) := dk_104 (dk_at dksX1_arePairs_1 3 rfl rfl)
theorem dX1_arePairs_27 : decode cX1_arePairs 27 = .ok (.iload_n 2, 1) := dk_28 (dk_at dksX1_arePairs_1 4 rfl rfl)
theorem dX1_arePairs_28 : decode cX1_arePairs 28 = .ok (.iadd, 1) := dk_96 (dk_at dksX1_arePairs_1 5 rfl rfl)
theorem dX1_arePairs_29 : decode cX1_arePairs 29 = .ok (.saload, 1) := dk_53 (dk_at dksX1_arePairs_1 6 rfl rfl)
theorem dX1_arePairs_30 : decode cX1_arePairs 30 = .ok (.istore_n 3, 1) := dk_62 (dk_at dksX1_arePairs_1 7 rfl rfl)
theorem dX1_arePairs_31 : decode cX1_arePairs 31 = .ok (.iload_n 3, 1) := dk_29 (dk_at dksX1_arePairs_1 8 rfl rfl)
theorem dX1_arePairs_32 : decode cX1_arePairs 32 = .ok (.aload_n 0, 1) := dk_42 (dk_at dksX1_arePairs_1 9 rfl rfl)
theorem dX1_arePairs_33 : decode cX1_arePairs 33 = .ok (.getfield 72, 3) := dk_180 0 72 (dk_at dksX1_arePairs_1 10 rfl rfl)
theorem dX1_arePairs_36 : decode cX1_arePairs 36 = .ok (.getfield 330, 3) := dk_180 1 74 (dk_at dksX1_arePairs_1 13 rfl rfl)
theorem dX1_arePairs_39 : decode cX1_arePairs 39 = .ok (.bipush 24, 2) := dk_16 24 (dk_at dksX1_arePairs_1 16 rfl rfl)
theorem dX1_arePairs_41 : decode cX1_arePairs 41 = .ok (.iload_n 2, 1) := dk_28 (dk_at dksX1_arePairs_1 18 rfl rfl)
theorem dX1_arePairs_42 : decode cX1_arePairs 42 = .ok (.imul, 1) := dk_104 (dk_at dksX1_arePairs_1 19 rfl rfl)
theorem dX1_arePairs_43 : decode cX1_arePairs 43 = .ok (.iload_n 1, 1) := dk_27 (dk_at dksX1_arePairs_1 20 rfl rfl)
theorem dX1_arePairs_44 : decode cX1_arePairs 44 = .ok (.iadd, 1) := dk_96 (dk_at dksX1_arePairs_1 21 rfl rfl)
theorem dX1_arePairs_45 : decode cX1_arePairs 45 = .ok (.saload, 1) := dk_53 (dk_at dksX1_arePairs_1 22 rfl rfl)
theorem dX1_arePairs_46 : decode cX1_arePairs 46 = .ok (.if_icmp .ne 36, 3) := dk_160 0 36 (dk_at dksX1_arePairs_2 0 rfl rfl)
theorem dX1_arePairs_49 : decode cX1_arePairs 49 = .ok (.aload_n 0, 1) := dk_42 (dk_at dksX1_arePairs_2 3 rfl rfl)
theorem dX1_arePairs_50 : decode cX1_arePairs 50 = .ok (.getfield 72, 3) := dk_180 0 72 (dk_at dksX1_arePairs_2 4 rfl rfl)
theorem dX1_arePairs_53 : decode cX1_arePairs 53 = .ok (.getfield 337, 3) := dk_180 1 81 (dk_at dksX1_arePairs_2 7 rfl rfl)
theorem dX1_arePairs_56 : decode cX1_arePairs 56 = .ok (.bipush 24, 2) := dk_16 24 (dk_at dksX1_arePairs_2 10 rfl rfl)
theorem dX1_arePairs_58 : decode cX1_arePairs 58 = .ok (.iload_n 1, 1) := dk_27 (dk_at dksX1_arePairs_2 12 rfl rfl)
theorem dX1_arePairs_59 : decode cX1_arePairs 59 = .ok (.imul, 1) := dk_104 (dk_at dksX1_arePairs_2 13 rfl rfl)
theorem dX1_arePairs_60 : decode cX1_arePairs 60 = .ok (.iload_n 2, 1) := dk_28 (dk_at dksX1_arePairs_2 14 rfl rfl)
theorem dX1_arePairs_61 : decode cX1_arePairs 61 = .ok (.iadd, 1) := dk_96 (dk_at dksX1_arePairs_2 15 rfl rfl)
theorem dX1_arePairs_62 : decode cX1_arePairs 62 = .ok (.saload, 1) := dk_53 (dk_at dksX1_arePairs_2 16 rfl rfl)
theorem dX1_arePairs_63 : decode cX1_arePairs 63 = .ok (.aload_n 0, 1) := dk_42 (dk_at dksX1_arePairs_2 17 rfl rfl)
theorem dX1_arePairs_64 : decode cX1_arePairs 64 = .ok (.getfield 72, 3) := dk_180 0 72 (dk_at dksX1_arePairs_2 18 rfl rfl)
theorem dX1_arePairs_67 : decode cX1_arePairs 67 = .ok (.getfield 337, 3) := dk_180 1 81 (dk_at dksX1_arePairs_2 21 rfl rfl)
theorem dX1_arePairs_70 : decode cX1_arePairs 70 = .ok (.bipush 24, 2) := dk_16 24 (dk_at dksX1_arePairs_3 0 rfl rfl)
theorem dX1_arePairs_72 : decode cX1_arePairs 72 = .ok (.iload_n 2, 1) := dk_28 (dk_at dksX1_arePairs_3 2 rfl rfl)
theorem dX1_arePairs_73 : decode cX1_arePairs 73 = .ok (.imul, 1) := dk_104 (dk_at dksX1_arePairs_3 3 rfl rfl)
theorem dX1_arePairs_74 : decode cX1_arePairs 74 = .ok (.iload_n 1, 1) := dk_27 (dk_at dksX1_arePairs_3 4 rfl rfl)
theorem dX1_arePairs_75 : decode cX1_arePairs 75 = .ok (.iadd, 1) := dk_96 (dk_at dksX1_arePairs_3 5 rfl rfl)
theorem dX1_arePairs_76 : decode cX1_arePairs 76 = .ok (.saload, 1) := dk_53 (dk_at dksX1_arePairs_3 6 rfl rfl)
theorem dX1_arePairs_77 : decode cX1_arePairs 77 = .ok (.iadd, 1) := dk_96 (dk_at dksX1_arePairs_3 7 rfl rfl)
theorem dX1_arePairs_78 : decode cX1_arePairs 78 = .ok (.iload_n 3, 1) := dk_29 (dk_at dksX1_arePairs_3 8 rfl rfl)
theorem dX1_arePairs_79 : decode cX1_arePairs 79 = .ok (.if_icmp .le 5, 3) := dk_164 0 5 (dk_at dksX1_arePairs_3 9 rfl rfl)
theorem dX1_arePairs_82 : decode cX1_arePairs 82 = .ok (.iconst 0, 1) := dk_3 (dk_at dksX1_arePairs_3 12 rfl rfl)
theorem dX1_arePairs_83 : decode cX1_arePairs 83 = .ok (.ireturn, 1) := dk_172 (dk_at dksX1_arePairs_3 13 rfl rfl)
theorem dX1_arePairs_84 : decode cX1_arePairs 84 = .ok (.iinc 2 1, 3) := dk_132 2 1 (dk_at dksX1_arePairs_3 14 rfl rfl)
theorem dX1_arePairs_87 : decode cX1_arePairs 87 = .ok (.goto (-77), 3) := dk_167 255 179 (dk_at dksX1_arePairs_3 17 rfl rfl)
theorem dX1_arePairs_90 : decode cX1_arePairs 90 = .ok (.iinc 1 1, 3) := dk_132 1 1 (dk_at dksX1_arePairs_3 20 rfl rfl)
theorem dX1_arePairs_93 : decode cX1_arePairs 93 = .ok (.goto (-91), 3) := dk_167 255 165 (dk_at dksX1_arePairs_4 0 rfl rfl)
theorem dX1_arePairs_96 : decode cX1_arePairs 96 = .ok (.iconst 1, 1) := dk_4 (dk_at dksX1_arePairs_4 3 rfl rfl)
theorem dX1_arePairs_97 : decode cX1_arePairs 97 = .ok (.ireturn, 1) := dk_172 (dk_at dksX1_arePairs_4 4 rfl rfl)
abbrev cX1_areScores : ByteArray := prog_1_method_65_code
def yX1_areScores : MethodName := ⟨RX1, "areScores", "()Z"⟩
def dkwX1_areScores_3 : List UInt8 := [46, 96, 43, 6, 46, 96, 160, 0, 7, 4, 167, 0, 4, 3, 172]
abbrev dktX1_areScores_3 : List UInt8 := dkwX1_areScores_3 ++ []
def dkwX1_areScores_2 : List UInt8 := [167, 255, 219, 43, 3, 46, 42, 180, 0, 72, 180, 0, 217, 160, 0, 24, 43, 3, 46, 43, 4, 46, 43, 5]
abbrev dktX1_areScores_2 : List UInt8 := dkwX1_areScores_2 ++ dktX1_areScores_3
def dkwX1_areScores_1 : List UInt8 := [42, 180, 0, 72, 180, 1, 110, 7, 28, 96, 46, 96, 43, 28, 46, 159, 0, 5, 3, 172, 132, 2, 1]
abbrev dktX1_areScores_1 : List UInt8 := dkwX1_areScores_1 ++ dktX1_areScores_2
def dkwX1_areScores_0 : List UInt8 := [42, 180, 0, 72, 180, 0, 34, 76, 3, 61, 28, 7, 162, 0, 38, 42, 180, 0, 72, 180, 1, 110, 28, 46]
abbrev dktX1_areScores_0 : List UInt8 := dkwX1_areScores_0 ++ dktX1_areScores_1
theorem dksX1_areScores_0 : cX1_areScores.data.toList.drop 0 = dktX1_areScores_0 := by decide +kernel
theorem dksX1_areScores_1 : cX1_areScores.data.toList.drop 24 = dktX1_areScores_1 := dk_seg dksX1_areScores_0 24 rfl rfl
theorem dksX1_areScores_2 : cX1_areScores.data.toList.drop 47 = dktX1_areScores_2 := dk_seg dksX1_areScores_1 23 rfl rfl
theorem dksX1_areScores_3 : cX1_areScores.data.toList.drop 71 = dktX1_areScores_3 := dk_seg dksX1_areScores_2 24 rfl rfl
theorem dX1_areScores_0 : decode cX1_areScores 0 = .ok (.aload_n 0, 1) := dk_42 (dk_at dksX1_areScores_0 0 rfl rfl)
theorem dX1_areScores_1 : decode cX1_areScores 1 = .ok (.getfield 72, 3) := dk_180 0 72 (dk_at dksX1_areScores_0 1 rfl rfl)
theorem dX1_areScores_4 : decode cX1_areScores 4 = .ok (.getfield 34, 3) := dk_180 0 34 (dk_at dksX1_areScores_0 4 rfl rfl)
theorem dX1_areScores_7 : decode cX1_areScores 7 = .ok (.astore_n 1, 1) := dk_76 (dk_at dksX1_areScores_0 7 rfl rfl)
theorem dX1_areScores_8 : decode cX1_areScores 8 = .ok (.iconst 0, 1) := dk_3 (dk_at dksX1_areScores_0 8 rfl rfl)
theorem dX1_areScores_9 : decode cX1_areScores 9 = .ok (.istore_n 2, 1) := dk_61 (dk_at dksX1_areScores_0 9 rfl rfl)
theorem dX1_areScores_10 : decode cX1_areScores 10 = .ok (.iload_n 2, 1) := dk_28 (dk_at dksX1_areScores_0 10 rfl rfl)
theorem dX1_areScores_11 : decode cX1_areScores 11 = .ok (.iconst 4, 1) := dk_7 (dk_at dksX1_areScores_0 11 rfl rfl)
theorem dX1_areScores_12 : decode cX1_areScores 12 = .ok (.if_icmp .ge 38, 3) := dk_162 0 38 (dk_at dksX1_areScores_0 12 rfl rfl)
theorem dX1_areScores_15 : decode cX1_areScores 15 = .ok (.aload_n 0, 1) := dk_42 (dk_at dksX1_areScores_0 15 rfl rfl)
theorem dX1_areScores_16 : decode cX1_areScores 16 = .ok (.getfield 72, 3) := dk_180 0 72 (dk_at dksX1_areScores_0 16 rfl rfl)
theorem dX1_areScores_19 : decode cX1_areScores 19 = .ok (.getfield 366, 3) := dk_180 1 110 (dk_at dksX1_areScores_0 19 rfl rfl)
theorem dX1_areScores_22 : decode cX1_areScores 22 = .ok (.iload_n 2, 1) := dk_28 (dk_at dksX1_areScores_0 22 rfl rfl)
theorem dX1_areScores_23 : decode cX1_areScores 23 = .ok (.iaload, 1) := dk_46 (dk_at dksX1_areScores_0 23 rfl rfl)
theorem dX1_areScores_24 : decode cX1_areScores 24 = .ok (.aload_n 0, 1) := dk_42 (dk_at dksX1_areScores_1 0 rfl rfl)
theorem dX1_areScores_25 : decode cX1_areScores 25 = .ok (.getfield 72, 3) := dk_180 0 72 (dk_at dksX1_areScores_1 1 rfl rfl)
theorem dX1_areScores_28 : decode cX1_areScores 28 = .ok (.getfield 366, 3) := dk_180 1 110 (dk_at dksX1_areScores_1 4 rfl rfl)
theorem dX1_areScores_31 : decode cX1_areScores 31 = .ok (.iconst 4, 1) := dk_7 (dk_at dksX1_areScores_1 7 rfl rfl)
theorem dX1_areScores_32 : decode cX1_areScores 32 = .ok (.iload_n 2, 1) := dk_28 (dk_at dksX1_areScores_1 8 rfl rfl)
theorem dX1_areScores_33 : decode cX1_areScores 33 = .ok (.iadd, 1) := dk_96 (dk_at dksX1_areScores_1 9 rfl rfl)
theorem dX1_areScores_34 : decode cX1_areScores 34 = .ok (.iaload, 1) := dk_46 (dk_at dksX1_areScores_1 10 rfl rfl)
theorem dX1_areScores_35 : decode cX1_areScores 35 = .ok (.iadd, 1) := dk_96 (dk_at dksX1_areScores_1 11 rfl rfl)
theorem dX1_areScores_36 : decode cX1_areScores 36 = .ok (.aload_n 1, 1) := dk_43 (dk_at dksX1_areScores_1 12 rfl rfl)
theorem dX1_areScores_37 : decode cX1_areScores 37 = .ok (.iload_n 2, 1) := dk_28 (dk_at dksX1_areScores_1 13 rfl rfl)
theorem dX1_areScores_38 : decode cX1_areScores 38 = .ok (.iaload, 1) := dk_46 (dk_at dksX1_areScores_1 14 rfl rfl)
theorem dX1_areScores_39 : decode cX1_areScores 39 = .ok (.if_icmp .eq 5, 3) := dk_159 0 5 (dk_at dksX1_areScores_1 15 rfl rfl)
theorem dX1_areScores_42 : decode cX1_areScores 42 = .ok (.iconst 0, 1) := dk_3 (dk_at dksX1_areScores_1 18 rfl rfl)
theorem dX1_areScores_43 : decode cX1_areScores 43 = .ok (.ireturn, 1) := dk_172 (dk_at dksX1_areScores_1 19 rfl rfl)
theorem dX1_areScores_44 : decode cX1_areScores 44 = .ok (.iinc 2 1, 3) := dk_132 2 1 (dk_at dksX1_areScores_1 20 rfl rfl)
theorem dX1_areScores_47 : decode cX1_areScores 47 = .ok (.goto (-37), 3) := dk_167 255 219 (dk_at dksX1_areScores_2 0 rfl rfl)
theorem dX1_areScores_50 : decode cX1_areScores 50 = .ok (.aload_n 1, 1) := dk_43 (dk_at dksX1_areScores_2 3 rfl rfl)
theorem dX1_areScores_51 : decode cX1_areScores 51 = .ok (.iconst 0, 1) := dk_3 (dk_at dksX1_areScores_2 4 rfl rfl)
theorem dX1_areScores_52 : decode cX1_areScores 52 = .ok (.iaload, 1) := dk_46 (dk_at dksX1_areScores_2 5 rfl rfl)
theorem dX1_areScores_53 : decode cX1_areScores 53 = .ok (.aload_n 0, 1) := dk_42 (dk_at dksX1_areScores_2 6 rfl rfl)
theorem dX1_areScores_54 : decode cX1_areScores 54 = .ok (.getfield 72, 3) := dk_180 0 72 (dk_at dksX1_areScores_2 7 rfl rfl)
theorem dX1_areScores_57 : decode cX1_areScores 57 = .ok (.getfield 217, 3) := dk_180 0 217 (dk_at dksX1_areScores_2 10 rfl rfl)
theorem dX1_areScores_60 : decode cX1_areScores 60 = .ok (.if_icmp .ne 24, 3) := dk_160 0 24 (dk_at dksX1_areScores_2 13 rfl rfl)
theorem dX1_areScores_63 : decode cX1_areScores 63 = .ok (.aload_n 1, 1) := dk_43 (dk_at dksX1_areScores_2 16 rfl rfl)
theorem dX1_areScores_64 : decode cX1_areScores 64 = .ok (.iconst 0, 1) := dk_3 (dk_at dksX1_areScores_2 17 rfl rfl)
theorem dX1_areScores_65 : decode cX1_areScores 65 = .ok (.iaload, 1) := dk_46 (dk_at dksX1_areScores_2 18 rfl rfl)
theorem dX1_areScores_66 : decode cX1_areScores 66 = .ok (.aload_n 1, 1) := dk_43 (dk_at dksX1_areScores_2 19 rfl rfl)
theorem dX1_areScores_67 : decode cX1_areScores 67 = .ok (.iconst 1, 1) := dk_4 (dk_at dksX1_areScores_2 20 rfl rfl)
theorem dX1_areScores_68 : decode cX1_areScores 68 = .ok (.iaload, 1) := dk_46 (dk_at dksX1_areScores_2 21 rfl rfl)
theorem dX1_areScores_69 : decode cX1_areScores 69 = .ok (.aload_n 1, 1) := dk_43 (dk_at dksX1_areScores_2 22 rfl rfl)
theorem dX1_areScores_70 : decode cX1_areScores 70 = .ok (.iconst 2, 1) := dk_5 (dk_at dksX1_areScores_2 23 rfl rfl)
theorem dX1_areScores_71 : decode cX1_areScores 71 = .ok (.iaload, 1) := dk_46 (dk_at dksX1_areScores_3 0 rfl rfl)
theorem dX1_areScores_72 : decode cX1_areScores 72 = .ok (.iadd, 1) := dk_96 (dk_at dksX1_areScores_3 1 rfl rfl)
theorem dX1_areScores_73 : decode cX1_areScores 73 = .ok (.aload_n 1, 1) := dk_43 (dk_at dksX1_areScores_3 2 rfl rfl)
theorem dX1_areScores_74 : decode cX1_areScores 74 = .ok (.iconst 3, 1) := dk_6 (dk_at dksX1_areScores_3 3 rfl rfl)
theorem dX1_areScores_75 : decode cX1_areScores 75 = .ok (.iaload, 1) := dk_46 (dk_at dksX1_areScores_3 4 rfl rfl)
theorem dX1_areScores_76 : decode cX1_areScores 76 = .ok (.iadd, 1) := dk_96 (dk_at dksX1_areScores_3 5 rfl rfl)
theorem dX1_areScores_77 : decode cX1_areScores 77 = .ok (.if_icmp .ne 7, 3) := dk_160 0 7 (dk_at dksX1_areScores_3 6 rfl rfl)
theorem dX1_areScores_80 : decode cX1_areScores 80 = .ok (.iconst 1, 1) := dk_4 (dk_at dksX1_areScores_3 9 rfl rfl)
theorem dX1_areScores_81 : decode cX1_areScores 81 = .ok (.goto 4, 3) := dk_167 0 4 (dk_at dksX1_areScores_3 10 rfl rfl)
theorem dX1_areScores_84 : decode cX1_areScores 84 = .ok (.iconst 0, 1) := dk_3 (dk_at dksX1_areScores_3 13 rfl rfl)
theorem dX1_areScores_85 : decode cX1_areScores 85 = .ok (.ireturn, 1) := dk_172 (dk_at dksX1_areScores_3 14 rfl rfl)
abbrev cX1_truth : ByteArray := prog_1_method_67_code
def yX1_truth : MethodName := ⟨RX1, "truth", "()D"⟩
def dkwX1_truth_1 : List UInt8 := [14, 167, 0, 16, 42, 180, 0, 72, 180, 0, 34, 4, 46, 135, 27, 135, 111, 175]
abbrev dktX1_truth_1 : List UInt8 := dkwX1_truth_1 ++ []
def dkwX1_truth_0 : List UInt8 := [42, 180, 0, 72, 180, 0, 34, 4, 46, 42, 180, 0, 72, 180, 0, 34, 5, 46, 96, 60, 27, 154, 0, 7]
abbrev dktX1_truth_0 : List UInt8 := dkwX1_truth_0 ++ dktX1_truth_1
theorem dksX1_truth_0 : cX1_truth.data.toList.drop 0 = dktX1_truth_0 := by decide +kernel
theorem dksX1_truth_1 : cX1_truth.data.toList.drop 24 = dktX1_truth_1 := dk_seg dksX1_truth_0 24 rfl rfl
theorem dX1_truth_0 : decode cX1_truth 0 = .ok (.aload_n 0, 1) := dk_42 (dk_at dksX1_truth_0 0 rfl rfl)
theorem dX1_truth_1 : decode cX1_truth 1 = .ok (.getfield 72, 3) := dk_180 0 72 (dk_at dksX1_truth_0 1 rfl rfl)
theorem dX1_truth_4 : decode cX1_truth 4 = .ok (.getfield 34, 3) := dk_180 0 34 (dk_at dksX1_truth_0 4 rfl rfl)
theorem dX1_truth_7 : decode cX1_truth 7 = .ok (.iconst 1, 1) := dk_4 (dk_at dksX1_truth_0 7 rfl rfl)
theorem dX1_truth_8 : decode cX1_truth 8 = .ok (.iaload, 1) := dk_46 (dk_at dksX1_truth_0 8 rfl rfl)
theorem dX1_truth_9 : decode cX1_truth 9 = .ok (.aload_n 0, 1) := dk_42 (dk_at dksX1_truth_0 9 rfl rfl)
theorem dX1_truth_10 : decode cX1_truth 10 = .ok (.getfield 72, 3) := dk_180 0 72 (dk_at dksX1_truth_0 10 rfl rfl)
theorem dX1_truth_13 : decode cX1_truth 13 = .ok (.getfield 34, 3) := dk_180 0 34 (dk_at dksX1_truth_0 13 rfl rfl)
theorem dX1_truth_16 : decode cX1_truth 16 = .ok (.iconst 2, 1) := dk_5 (dk_at dksX1_truth_0 16 rfl rfl)
theorem dX1_truth_17 : decode cX1_truth 17 = .ok (.iaload, 1) := dk_46 (dk_at dksX1_truth_0 17 rfl rfl)
theorem dX1_truth_18 : decode cX1_truth 18 = .ok (.iadd, 1) := dk_96 (dk_at dksX1_truth_0 18 rfl rfl)
theorem dX1_truth_19 : decode cX1_truth 19 = .ok (.istore_n 1, 1) := dk_60 (dk_at dksX1_truth_0 19 rfl rfl)
theorem dX1_truth_20 : decode cX1_truth 20 = .ok (.iload_n 1, 1) := dk_27 (dk_at dksX1_truth_0 20 rfl rfl)
theorem dX1_truth_21 : decode cX1_truth 21 = .ok (.ifCond .ne 7, 3) := dk_154 0 7 (dk_at dksX1_truth_0 21 rfl rfl)
theorem dX1_truth_24 : decode cX1_truth 24 = .ok (.dconst 0, 1) := dk_14 (dk_at dksX1_truth_1 0 rfl rfl)
theorem dX1_truth_25 : decode cX1_truth 25 = .ok (.goto 16, 3) := dk_167 0 16 (dk_at dksX1_truth_1 1 rfl rfl)
theorem dX1_truth_28 : decode cX1_truth 28 = .ok (.aload_n 0, 1) := dk_42 (dk_at dksX1_truth_1 4 rfl rfl)
theorem dX1_truth_29 : decode cX1_truth 29 = .ok (.getfield 72, 3) := dk_180 0 72 (dk_at dksX1_truth_1 5 rfl rfl)
theorem dX1_truth_32 : decode cX1_truth 32 = .ok (.getfield 34, 3) := dk_180 0 34 (dk_at dksX1_truth_1 8 rfl rfl)
theorem dX1_truth_35 : decode cX1_truth 35 = .ok (.iconst 1, 1) := dk_4 (dk_at dksX1_truth_1 11 rfl rfl)
theorem dX1_truth_36 : decode cX1_truth 36 = .ok (.iaload, 1) := dk_46 (dk_at dksX1_truth_1 12 rfl rfl)
theorem dX1_truth_37 : decode cX1_truth 37 = .ok (.i2d, 1) := dk_135 (dk_at dksX1_truth_1 13 rfl rfl)
theorem dX1_truth_38 : decode cX1_truth 38 = .ok (.iload_n 1, 1) := dk_27 (dk_at dksX1_truth_1 14 rfl rfl)
theorem dX1_truth_39 : decode cX1_truth 39 = .ok (.i2d, 1) := dk_135 (dk_at dksX1_truth_1 15 rfl rfl)
theorem dX1_truth_40 : decode cX1_truth 40 = .ok (.ddiv, 1) := dk_111 (dk_at dksX1_truth_1 16 rfl rfl)
theorem dX1_truth_41 : decode cX1_truth 41 = .ok (.dreturn, 1) := dk_175 (dk_at dksX1_truth_1 17 rfl rfl)
abbrev cX1_meanWeight : ByteArray := prog_1_method_68_code
def yX1_meanWeight : MethodName := ⟨RX1, "meanWeight", "()F"⟩
def dkwX1_meanWeight_1 : List UInt8 := [180, 0, 72, 180, 0, 210, 182, 0, 214, 134, 110, 174]
abbrev dktX1_meanWeight_1 : List UInt8 := dkwX1_meanWeight_1 ++ []
def dkwX1_meanWeight_0 : List UInt8 := [42, 180, 0, 72, 180, 0, 210, 182, 1, 179, 153, 0, 7, 11, 167, 0, 20, 42, 182, 0, 226, 134, 42]
abbrev dktX1_meanWeight_0 : List UInt8 := dkwX1_meanWeight_0 ++ dktX1_meanWeight_1
theorem dksX1_meanWeight_0 : cX1_meanWeight.data.toList.drop 0 = dktX1_meanWeight_0 := by decide +kernel
theorem dksX1_meanWeight_1 : cX1_meanWeight.data.toList.drop 23 = dktX1_meanWeight_1 := dk_seg dksX1_meanWeight_0 23 rfl rfl
theorem dX1_meanWeight_0 : decode cX1_meanWeight 0 = .ok (.aload_n 0, 1) := dk_42 (dk_at dksX1_meanWeight_0 0 rfl rfl)
theorem dX1_meanWeight_1 : decode cX1_meanWeight 1 = .ok (.getfield 72, 3) := dk_180 0 72 (dk_at dksX1_meanWeight_0 1 rfl rfl)
theorem dX1_meanWeight_4 : decode cX1_meanWeight 4 = .ok (.getfield 210, 3) := dk_180 0 210 (dk_at dksX1_meanWeight_0 4 rfl rfl)
theorem dX1_meanWeight_7 : decode cX1_meanWeight 7 = .ok (.invokevirtual 435, 3) := dk_182 1 179 (dk_at dksX1_meanWeight_0 7 rfl rfl)
theorem dX1_meanWeight_10 : decode cX1_meanWeight 10 = .ok (.ifCond .eq 7, 3) := dk_153 0 7 (dk_at dksX1_meanWeight_0 10 rfl rfl)
theorem dX1_meanWeight_13 : decode cX1_meanWeight 13 = .ok (.fconst 0, 1) := dk_11 (dk_at dksX1_meanWeight_0 13 rfl rfl)
theorem dX1_meanWeight_14 : decode cX1_meanWeight 14 = .ok (.goto 20, 3) := dk_167 0 20 (dk_at dksX1_meanWeight_0 14 rfl rfl)
theorem dX1_meanWeight_17 : decode cX1_meanWeight 17 = .ok (.aload_n 0, 1) := dk_42 (dk_at dksX1_meanWeight_0 17 rfl rfl)
theorem dX1_meanWeight_18 : decode cX1_meanWeight 18 = .ok (.invokevirtual 226, 3) := dk_182 0 226 (dk_at dksX1_meanWeight_0 18 rfl rfl)
theorem dX1_meanWeight_21 : decode cX1_meanWeight 21 = .ok (.i2f, 1) := dk_134 (dk_at dksX1_meanWeight_0 21 rfl rfl)
theorem dX1_meanWeight_22 : decode cX1_meanWeight 22 = .ok (.aload_n 0, 1) := dk_42 (dk_at dksX1_meanWeight_0 22 rfl rfl)
theorem dX1_meanWeight_23 : decode cX1_meanWeight 23 = .ok (.getfield 72, 3) := dk_180 0 72 (dk_at dksX1_meanWeight_1 0 rfl rfl)
theorem dX1_meanWeight_26 : decode cX1_meanWeight 26 = .ok (.getfield 210, 3) := dk_180 0 210 (dk_at dksX1_meanWeight_1 3 rfl rfl)
theorem dX1_meanWeight_29 : decode cX1_meanWeight 29 = .ok (.invokevirtual 214, 3) := dk_182 0 214 (dk_at dksX1_meanWeight_1 6 rfl rfl)
theorem dX1_meanWeight_32 : decode cX1_meanWeight 32 = .ok (.i2f, 1) := dk_134 (dk_at dksX1_meanWeight_1 9 rfl rfl)
theorem dX1_meanWeight_33 : decode cX1_meanWeight 33 = .ok (.fdiv, 1) := dk_110 (dk_at dksX1_meanWeight_1 10 rfl rfl)
theorem dX1_meanWeight_34 : decode cX1_meanWeight 34 = .ok (.freturn, 1) := dk_174 (dk_at dksX1_meanWeight_1 11 rfl rfl)
abbrev cX1_weights : ByteArray := prog_1_method_23_code
def yX1_weights : MethodName := ⟨RX1, "weights", "()I"⟩
def dkwX1_weights_2 : List UInt8 := [180, 0, 184, 96, 60, 167, 255, 219, 27, 172]
abbrev dktX1_weights_2 : List UInt8 := dkwX1_weights_2 ++ []
def dkwX1_weights_1 : List UInt8 := [44, 185, 0, 174, 1, 0, 192, 0, 178, 78, 27, 45, 180, 0, 180, 153, 0, 7, 3, 167, 0, 7, 45]
abbrev dktX1_weights_1 : List UInt8 := dkwX1_weights_1 ++ dktX1_weights_2
def dkwX1_weights_0 : List UInt8 := [3, 60, 42, 180, 0, 72, 180, 0, 18, 185, 0, 164, 1, 0, 77, 44, 185, 0, 168, 1, 0, 153, 0, 34]
abbrev dktX1_weights_0 : List UInt8 := dkwX1_weights_0 ++ dktX1_weights_1
theorem dksX1_weights_0 : cX1_weights.data.toList.drop 0 = dktX1_weights_0 := by decide +kernel
theorem dksX1_weights_1 : cX1_weights.data.toList.drop 24 = dktX1_weights_1 := dk_seg dksX1_weights_0 24 rfl rfl
theorem dksX1_weights_2 : cX1_weights.data.toList.drop 47 = dktX1_weights_2 := dk_seg dksX1_weights_1 23 rfl rfl
theorem dX1_weights_0 : decode cX1_weights 0 = .ok (.iconst 0, 1) := dk_3 (dk_at dksX1_weights_0 0 rfl rfl)
theorem dX1_weights_1 : decode cX1_weights 1 = .ok (.istore_n 1, 1) := dk_60 (dk_at dksX1_weights_0 1 rfl rfl)
theorem dX1_weights_2 : decode cX1_weights 2 = .ok (.aload_n 0, 1) := dk_42 (dk_at dksX1_weights_0 2 rfl rfl)
theorem dX1_weights_3 : decode cX1_weights 3 = .ok (.getfield 72, 3) := dk_180 0 72 (dk_at dksX1_weights_0 3 rfl rfl)
theorem dX1_weights_6 : decode cX1_weights 6 = .ok (.getfield 18, 3) := dk_180 0 18 (dk_at dksX1_weights_0 6 rfl rfl)
theorem dX1_weights_9 : decode cX1_weights 9 = .ok (.invokeinterface 164 1, 5) := by decide +kernel
theorem dX1_weights_14 : decode cX1_weights 14 = .ok (.astore_n 2, 1) := dk_77 (dk_at dksX1_weights_0 14 rfl rfl)
theorem dX1_weights_15 : decode cX1_weights 15 = .ok (.aload_n 2, 1) := dk_44 (dk_at dksX1_weights_0 15 rfl rfl)
theorem dX1_weights_16 : decode cX1_weights 16 = .ok (.invokeinterface 168 1, 5) := by decide +kernel
theorem dX1_weights_21 : decode cX1_weights 21 = .ok (.ifCond .eq 34, 3) := dk_153 0 34 (dk_at dksX1_weights_0 21 rfl rfl)
theorem dX1_weights_24 : decode cX1_weights 24 = .ok (.aload_n 2, 1) := dk_44 (dk_at dksX1_weights_1 0 rfl rfl)
theorem dX1_weights_25 : decode cX1_weights 25 = .ok (.invokeinterface 174 1, 5) := by decide +kernel
theorem dX1_weights_30 : decode cX1_weights 30 = .ok (.checkcast 178, 3) := dk_192 0 178 (dk_at dksX1_weights_1 6 rfl rfl)
theorem dX1_weights_33 : decode cX1_weights 33 = .ok (.astore_n 3, 1) := dk_78 (dk_at dksX1_weights_1 9 rfl rfl)
theorem dX1_weights_34 : decode cX1_weights 34 = .ok (.iload_n 1, 1) := dk_27 (dk_at dksX1_weights_1 10 rfl rfl)
theorem dX1_weights_35 : decode cX1_weights 35 = .ok (.aload_n 3, 1) := dk_45 (dk_at dksX1_weights_1 11 rfl rfl)
theorem dX1_weights_36 : decode cX1_weights 36 = .ok (.getfield 180, 3) := dk_180 0 180 (dk_at dksX1_weights_1 12 rfl rfl)
theorem dX1_weights_39 : decode cX1_weights 39 = .ok (.ifCond .eq 7, 3) := dk_153 0 7 (dk_at dksX1_weights_1 15 rfl rfl)
theorem dX1_weights_42 : decode cX1_weights 42 = .ok (.iconst 0, 1) := dk_3 (dk_at dksX1_weights_1 18 rfl rfl)
theorem dX1_weights_43 : decode cX1_weights 43 = .ok (.goto 7, 3) := dk_167 0 7 (dk_at dksX1_weights_1 19 rfl rfl)
theorem dX1_weights_46 : decode cX1_weights 46 = .ok (.aload_n 3, 1) := dk_45 (dk_at dksX1_weights_1 22 rfl rfl)
theorem dX1_weights_47 : decode cX1_weights 47 = .ok (.getfield 184, 3) := dk_180 0 184 (dk_at dksX1_weights_2 0 rfl rfl)
theorem dX1_weights_50 : decode cX1_weights 50 = .ok (.iadd, 1) := dk_96 (dk_at dksX1_weights_2 3 rfl rfl)
theorem dX1_weights_51 : decode cX1_weights 51 = .ok (.istore_n 1, 1) := dk_60 (dk_at dksX1_weights_2 4 rfl rfl)
theorem dX1_weights_52 : decode cX1_weights 52 = .ok (.goto (-37), 3) := dk_167 255 219 (dk_at dksX1_weights_2 5 rfl rfl)
theorem dX1_weights_55 : decode cX1_weights 55 = .ok (.iload_n 1, 1) := dk_27 (dk_at dksX1_weights_2 8 rfl rfl)
theorem dX1_weights_56 : decode cX1_weights 56 = .ok (.ireturn, 1) := dk_172 (dk_at dksX1_weights_2 9 rfl rfl)
abbrev cX1_outputByte : ByteArray := prog_1_method_78_code
def yX1_outputByte : MethodName := ⟨RX1, "outputByte", "(I)I"⟩
def dkwX1_outputByte_1 : List UInt8 := [182, 1, 225, 167, 0, 4, 2, 172]
abbrev dktX1_outputByte_1 : List UInt8 := dkwX1_outputByte_1 ++ []
def dkwX1_outputByte_0 : List UInt8 := [27, 133, 9, 42, 180, 0, 92, 182, 1, 219, 4, 100, 133, 184, 0, 105, 153, 0, 14, 42, 180, 0, 92, 27]
abbrev dktX1_outputByte_0 : List UInt8 := dkwX1_outputByte_0 ++ dktX1_outputByte_1
theorem dksX1_outputByte_0 : cX1_outputByte.data.toList.drop 0 = dktX1_outputByte_0 := by decide +kernel
theorem dksX1_outputByte_1 : cX1_outputByte.data.toList.drop 24 = dktX1_outputByte_1 := dk_seg dksX1_outputByte_0 24 rfl rfl
theorem dX1_outputByte_0 : decode cX1_outputByte 0 = .ok (.iload_n 1, 1) := dk_27 (dk_at dksX1_outputByte_0 0 rfl rfl)
theorem dX1_outputByte_1 : decode cX1_outputByte 1 = .ok (.i2l, 1) := dk_133 (dk_at dksX1_outputByte_0 1 rfl rfl)
theorem dX1_outputByte_2 : decode cX1_outputByte 2 = .ok (.lconst 0, 1) := dk_9 (dk_at dksX1_outputByte_0 2 rfl rfl)
theorem dX1_outputByte_3 : decode cX1_outputByte 3 = .ok (.aload_n 0, 1) := dk_42 (dk_at dksX1_outputByte_0 3 rfl rfl)
theorem dX1_outputByte_4 : decode cX1_outputByte 4 = .ok (.getfield 92, 3) := dk_180 0 92 (dk_at dksX1_outputByte_0 4 rfl rfl)
theorem dX1_outputByte_7 : decode cX1_outputByte 7 = .ok (.invokevirtual 475, 3) := dk_182 1 219 (dk_at dksX1_outputByte_0 7 rfl rfl)
theorem dX1_outputByte_10 : decode cX1_outputByte 10 = .ok (.iconst 1, 1) := dk_4 (dk_at dksX1_outputByte_0 10 rfl rfl)
theorem dX1_outputByte_11 : decode cX1_outputByte 11 = .ok (.isub, 1) := dk_100 (dk_at dksX1_outputByte_0 11 rfl rfl)
theorem dX1_outputByte_12 : decode cX1_outputByte 12 = .ok (.i2l, 1) := dk_133 (dk_at dksX1_outputByte_0 12 rfl rfl)
theorem dX1_outputByte_13 : decode cX1_outputByte 13 = .ok (.invokestatic 105, 3) := dk_184 0 105 (dk_at dksX1_outputByte_0 13 rfl rfl)
theorem dX1_outputByte_16 : decode cX1_outputByte 16 = .ok (.ifCond .eq 14, 3) := dk_153 0 14 (dk_at dksX1_outputByte_0 16 rfl rfl)
theorem dX1_outputByte_19 : decode cX1_outputByte 19 = .ok (.aload_n 0, 1) := dk_42 (dk_at dksX1_outputByte_0 19 rfl rfl)
theorem dX1_outputByte_20 : decode cX1_outputByte 20 = .ok (.getfield 92, 3) := dk_180 0 92 (dk_at dksX1_outputByte_0 20 rfl rfl)
theorem dX1_outputByte_23 : decode cX1_outputByte 23 = .ok (.iload_n 1, 1) := dk_27 (dk_at dksX1_outputByte_0 23 rfl rfl)
theorem dX1_outputByte_24 : decode cX1_outputByte 24 = .ok (.invokevirtual 481, 3) := dk_182 1 225 (dk_at dksX1_outputByte_1 0 rfl rfl)
theorem dX1_outputByte_27 : decode cX1_outputByte 27 = .ok (.goto 4, 3) := dk_167 0 4 (dk_at dksX1_outputByte_1 3 rfl rfl)
theorem dX1_outputByte_30 : decode cX1_outputByte 30 = .ok (.iconst (-1), 1) := dk_2 (dk_at dksX1_outputByte_1 6 rfl rfl)
theorem dX1_outputByte_31 : decode cX1_outputByte 31 = .ok (.ireturn, 1) := dk_172 (dk_at dksX1_outputByte_1 7 rfl rfl)
abbrev cX1_saveState : ByteArray := prog_1_method_79_code
def yX1_saveState : MethodName := ⟨RX1, "saveState", "()I"⟩
def dkwX1_saveState_0 : List UInt8 := [42, 42, 180, 0, 72, 182, 0, 76, 181, 0, 134, 42, 180, 0, 72, 180, 0, 217, 172]
abbrev dktX1_saveState_0 : List UInt8 := dkwX1_saveState_0 ++ []
theorem dksX1_saveState_0 : cX1_saveState.data.toList.drop 0 = dktX1_saveState_0 := by decide +kernel
theorem dX1_saveState_0 : decode cX1_saveState 0 = .ok (.aload_n 0, 1) := dk_42 (dk_at dksX1_saveState_0 0 rfl rfl)
theorem dX1_saveState_1 : decode cX1_saveState 1 = .ok (.aload_n 0, 1) := dk_42 (dk_at dksX1_saveState_0 1 rfl rfl)
theorem dX1_saveState_2 : decode cX1_saveState 2 = .ok (.getfield 72, 3) := dk_180 0 72 (dk_at dksX1_saveState_0 2 rfl rfl)
theorem dX1_saveState_5 : decode cX1_saveState 5 = .ok (.invokevirtual 76, 3) := dk_182 0 76 (dk_at dksX1_saveState_0 5 rfl rfl)
theorem dX1_saveState_8 : decode cX1_saveState 8 = .ok (.putfield 134, 3) := dk_181 0 134 (dk_at dksX1_saveState_0 8 rfl rfl)
theorem dX1_saveState_11 : decode cX1_saveState 11 = .ok (.aload_n 0, 1) := dk_42 (dk_at dksX1_saveState_0 11 rfl rfl)
theorem dX1_saveState_12 : decode cX1_saveState 12 = .ok (.getfield 72, 3) := dk_180 0 72 (dk_at dksX1_saveState_0 12 rfl rfl)
theorem dX1_saveState_15 : decode cX1_saveState 15 = .ok (.getfield 217, 3) := dk_180 0 217 (dk_at dksX1_saveState_0 15 rfl rfl)
theorem dX1_saveState_18 : decode cX1_saveState 18 = .ok (.ireturn, 1) := dk_172 (dk_at dksX1_saveState_0 18 rfl rfl)
abbrev cX1_count : ByteArray := prog_1_method_27_code
def yX1_count : MethodName := ⟨RX1, "count", "(I)I"⟩
def dkwX1_count_6 : List UInt8 := [180, 0, 85, 182, 0, 234, 172, 187, 0, 7, 89, 183, 0, 9, 191]
abbrev dktX1_count_6 : List UInt8 := dkwX1_count_6 ++ []
def dkwX1_count_5 : List UInt8 := [180, 0, 217, 17, 1, 104, 108, 172, 42, 182, 0, 226, 172, 42, 182, 0, 229, 172, 42, 182, 0, 231, 172, 42]
abbrev dktX1_count_5 : List UInt8 := dkwX1_count_5 ++ dktX1_count_6
def dkwX1_count_4 : List UInt8 := [42, 180, 0, 72, 180, 0, 217, 172, 42, 180, 0, 72, 180, 0, 217, 184, 0, 220, 172, 42, 180, 0, 72]
abbrev dktX1_count_4 : List UInt8 := dkwX1_count_4 ++ dktX1_count_5
def dkwX1_count_3 : List UInt8 := [42, 180, 0, 72, 180, 0, 18, 185, 0, 24, 1, 0, 172, 42, 180, 0, 72, 180, 0, 210, 182, 0, 214, 172]
abbrev dktX1_count_3 : List UInt8 := dkwX1_count_3 ++ dktX1_count_4
def dkwX1_count_2 : List UInt8 := [170, 0, 0, 0, 139, 0, 0, 0, 0, 0, 0, 0, 11, 0, 0, 0, 61, 0, 0, 0, 74, 0, 0, 0, 85, 0, 0, 0, 93, 0, 0, 0, 104, 0, 0, 0, 139, 0, 0, 0, 139, 0, 0, 0, 139, 0, 0, 0, 116, 0, 0, 0, 121, 0, 0, 0, 126, 0, 0, 0, 131]
abbrev dktX1_count_2 : List UInt8 := dkwX1_count_2 ++ dktX1_count_3
def dkwX1_count_1 : List UInt8 := [46, 172, 27]
abbrev dktX1_count_1 : List UInt8 := dkwX1_count_1 ++ dktX1_count_2
def dkwX1_count_0 : List UInt8 := [27, 133, 20, 0, 203, 20, 0, 205, 184, 0, 105, 153, 0, 15, 42, 180, 0, 72, 180, 0, 207, 27, 8, 100]
abbrev dktX1_count_0 : List UInt8 := dkwX1_count_0 ++ dktX1_count_1
theorem dksX1_count_0 : cX1_count.data.toList.drop 0 = dktX1_count_0 := by decide +kernel
theorem dksX1_count_1 : cX1_count.data.toList.drop 24 = dktX1_count_1 := dk_seg dksX1_count_0 24 rfl rfl
theorem dksX1_count_2 : cX1_count.data.toList.drop 27 = dktX1_count_2 := dk_seg dksX1_count_1 3 rfl rfl
theorem dksX1_count_3 : cX1_count.data.toList.drop 88 = dktX1_count_3 := dk_seg dksX1_count_2 61 rfl rfl
theorem dksX1_count_4 : cX1_count.data.toList.drop 112 = dktX1_count_4 := dk_seg dksX1_count_3 24 rfl rfl
theorem dksX1_count_5 : cX1_count.data.toList.drop 135 = dktX1_count_5 := dk_seg dksX1_count_4 23 rfl rfl
theorem dksX1_count_6 : cX1_count.data.toList.drop 159 = dktX1_count_6 := dk_seg dksX1_count_5 24 rfl rfl
theorem dX1_count_0 : decode cX1_count 0 = .ok (.iload_n 1, 1) := dk_27 (dk_at dksX1_count_0 0 rfl rfl)
theorem dX1_count_1 : decode cX1_count 1 = .ok (.i2l, 1) := dk_133 (dk_at dksX1_count_0 1 rfl rfl)
theorem dX1_count_2 : decode cX1_count 2 = .ok (.ldc2_w 203, 3) := dk_20 0 203 (dk_at dksX1_count_0 2 rfl rfl)
theorem dX1_count_5 : decode cX1_count 5 = .ok (.ldc2_w 205, 3) := dk_20 0 205 (dk_at dksX1_count_0 5 rfl rfl)
theorem dX1_count_8 : decode cX1_count 8 = .ok (.invokestatic 105, 3) := dk_184 0 105 (dk_at dksX1_count_0 8 rfl rfl)
theorem dX1_count_11 : decode cX1_count 11 = .ok (.ifCond .eq 15, 3) := dk_153 0 15 (dk_at dksX1_count_0 11 rfl rfl)
theorem dX1_count_14 : decode cX1_count 14 = .ok (.aload_n 0, 1) := dk_42 (dk_at dksX1_count_0 14 rfl rfl)
theorem dX1_count_15 : decode cX1_count 15 = .ok (.getfield 72, 3) := dk_180 0 72 (dk_at dksX1_count_0 15 rfl rfl)
theorem dX1_count_18 : decode cX1_count 18 = .ok (.getfield 207, 3) := dk_180 0 207 (dk_at dksX1_count_0 18 rfl rfl)
theorem dX1_count_21 : decode cX1_count 21 = .ok (.iload_n 1, 1) := dk_27 (dk_at dksX1_count_0 21 rfl rfl)
theorem dX1_count_22 : decode cX1_count 22 = .ok (.iconst 5, 1) := dk_8 (dk_at dksX1_count_0 22 rfl rfl)
theorem dX1_count_23 : decode cX1_count 23 = .ok (.isub, 1) := dk_100 (dk_at dksX1_count_0 23 rfl rfl)
theorem dX1_count_24 : decode cX1_count 24 = .ok (.iaload, 1) := dk_46 (dk_at dksX1_count_1 0 rfl rfl)
theorem dX1_count_25 : decode cX1_count 25 = .ok (.ireturn, 1) := dk_172 (dk_at dksX1_count_1 1 rfl rfl)
theorem dX1_count_26 : decode cX1_count 26 = .ok (.iload_n 1, 1) := dk_27 (dk_at dksX1_count_1 2 rfl rfl)
theorem dX1_count_27 : decode cX1_count 27 = .ok (.tableswitch 139 0 11 #[61, 74, 85, 93, 104, 139, 139, 139, 116, 121, 126, 131], 61) := by decide +kernel
theorem dX1_count_88 : decode cX1_count 88 = .ok (.aload_n 0, 1) := dk_42 (dk_at dksX1_count_3 0 rfl rfl)
theorem dX1_count_89 : decode cX1_count 89 = .ok (.getfield 72, 3) := dk_180 0 72 (dk_at dksX1_count_3 1 rfl rfl)
theorem dX1_count_92 : decode cX1_count 92 = .ok (.getfield 18, 3) := dk_180 0 18 (dk_at dksX1_count_3 4 rfl rfl)
theorem dX1_count_95 : decode cX1_count 95 = .ok (.invokeinterface 24 1, 5) := by decide +kernel
theorem dX1_count_100 : decode cX1_count 100 = .ok (.ireturn, 1) := dk_172 (dk_at dksX1_count_3 12 rfl rfl)
theorem dX1_count_101 : decode cX1_count 101 = .ok (.aload_n 0, 1) := dk_42 (dk_at dksX1_count_3 13 rfl rfl)
theorem dX1_count_102 : decode cX1_count 102 = .ok (.getfield 72, 3) := dk_180 0 72 (dk_at dksX1_count_3 14 rfl rfl)
theorem dX1_count_105 : decode cX1_count 105 = .ok (.getfield 210, 3) := dk_180 0 210 (dk_at dksX1_count_3 17 rfl rfl)
theorem dX1_count_108 : decode cX1_count 108 = .ok (.invokevirtual 214, 3) := dk_182 0 214 (dk_at dksX1_count_3 20 rfl rfl)
theorem dX1_count_111 : decode cX1_count 111 = .ok (.ireturn, 1) := dk_172 (dk_at dksX1_count_3 23 rfl rfl)
theorem dX1_count_112 : decode cX1_count 112 = .ok (.aload_n 0, 1) := dk_42 (dk_at dksX1_count_4 0 rfl rfl)
theorem dX1_count_113 : decode cX1_count 113 = .ok (.getfield 72, 3) := dk_180 0 72 (dk_at dksX1_count_4 1 rfl rfl)
theorem dX1_count_116 : decode cX1_count 116 = .ok (.getfield 217, 3) := dk_180 0 217 (dk_at dksX1_count_4 4 rfl rfl)
theorem dX1_count_119 : decode cX1_count 119 = .ok (.ireturn, 1) := dk_172 (dk_at dksX1_count_4 7 rfl rfl)
theorem dX1_count_120 : decode cX1_count 120 = .ok (.aload_n 0, 1) := dk_42 (dk_at dksX1_count_4 8 rfl rfl)
theorem dX1_count_121 : decode cX1_count 121 = .ok (.getfield 72, 3) := dk_180 0 72 (dk_at dksX1_count_4 9 rfl rfl)
theorem dX1_count_124 : decode cX1_count 124 = .ok (.getfield 217, 3) := dk_180 0 217 (dk_at dksX1_count_4 12 rfl rfl)
theorem dX1_count_127 : decode cX1_count 127 = .ok (.invokestatic 220, 3) := dk_184 0 220 (dk_at dksX1_count_4 15 rfl rfl)
theorem dX1_count_130 : decode cX1_count 130 = .ok (.ireturn, 1) := dk_172 (dk_at dksX1_count_4 18 rfl rfl)
theorem dX1_count_131 : decode cX1_count 131 = .ok (.aload_n 0, 1) := dk_42 (dk_at dksX1_count_4 19 rfl rfl)
theorem dX1_count_132 : decode cX1_count 132 = .ok (.getfield 72, 3) := dk_180 0 72 (dk_at dksX1_count_4 20 rfl rfl)
theorem dX1_count_135 : decode cX1_count 135 = .ok (.getfield 217, 3) := dk_180 0 217 (dk_at dksX1_count_5 0 rfl rfl)
theorem dX1_count_138 : decode cX1_count 138 = .ok (.sipush 360, 3) := dk_17 1 104 (dk_at dksX1_count_5 3 rfl rfl)
theorem dX1_count_141 : decode cX1_count 141 = .ok (.idiv, 1) := dk_108 (dk_at dksX1_count_5 6 rfl rfl)
theorem dX1_count_142 : decode cX1_count 142 = .ok (.ireturn, 1) := dk_172 (dk_at dksX1_count_5 7 rfl rfl)
theorem dX1_count_143 : decode cX1_count 143 = .ok (.aload_n 0, 1) := dk_42 (dk_at dksX1_count_5 8 rfl rfl)
theorem dX1_count_144 : decode cX1_count 144 = .ok (.invokevirtual 226, 3) := dk_182 0 226 (dk_at dksX1_count_5 9 rfl rfl)
theorem dX1_count_147 : decode cX1_count 147 = .ok (.ireturn, 1) := dk_172 (dk_at dksX1_count_5 12 rfl rfl)
theorem dX1_count_148 : decode cX1_count 148 = .ok (.aload_n 0, 1) := dk_42 (dk_at dksX1_count_5 13 rfl rfl)
theorem dX1_count_149 : decode cX1_count 149 = .ok (.invokevirtual 229, 3) := dk_182 0 229 (dk_at dksX1_count_5 14 rfl rfl)
theorem dX1_count_152 : decode cX1_count 152 = .ok (.ireturn, 1) := dk_172 (dk_at dksX1_count_5 17 rfl rfl)
theorem dX1_count_153 : decode cX1_count 153 = .ok (.aload_n 0, 1) := dk_42 (dk_at dksX1_count_5 18 rfl rfl)
theorem dX1_count_154 : decode cX1_count 154 = .ok (.invokevirtual 231, 3) := dk_182 0 231 (dk_at dksX1_count_5 19 rfl rfl)
theorem dX1_count_157 : decode cX1_count 157 = .ok (.ireturn, 1) := dk_172 (dk_at dksX1_count_5 22 rfl rfl)
theorem dX1_count_158 : decode cX1_count 158 = .ok (.aload_n 0, 1) := dk_42 (dk_at dksX1_count_5 23 rfl rfl)
theorem dX1_count_159 : decode cX1_count 159 = .ok (.getfield 85, 3) := dk_180 0 85 (dk_at dksX1_count_6 0 rfl rfl)
theorem dX1_count_162 : decode cX1_count 162 = .ok (.invokevirtual 234, 3) := dk_182 0 234 (dk_at dksX1_count_6 3 rfl rfl)
theorem dX1_count_165 : decode cX1_count 165 = .ok (.ireturn, 1) := dk_172 (dk_at dksX1_count_6 6 rfl rfl)
theorem dX1_count_166 : decode cX1_count 166 = .ok (.new 7, 3) := dk_187 0 7 (dk_at dksX1_count_6 7 rfl rfl)
theorem dX1_count_169 : decode cX1_count 169 = .ok (.dup, 1) := dk_89 (dk_at dksX1_count_6 10 rfl rfl)
theorem dX1_count_170 : decode cX1_count 170 = .ok (.invokespecial 9, 3) := dk_183 0 9 (dk_at dksX1_count_6 11 rfl rfl)
theorem dX1_count_173 : decode cX1_count 173 = .ok (.athrow, 1) := dk_191 (dk_at dksX1_count_6 14 rfl rfl)
abbrev cX1_clashes : ByteArray := prog_1_method_25_code
def yX1_clashes : MethodName := ⟨RX1, "clashes", "()I"⟩
def dkwX1_clashes_2 : List UInt8 := [172]
abbrev dktX1_clashes_2 : List UInt8 := dkwX1_clashes_2 ++ []
def dkwX1_clashes_1 : List UInt8 := [44, 185, 0, 174, 1, 0, 192, 0, 178, 78, 27, 42, 45, 182, 0, 195, 96, 60, 167, 255, 229, 27, 5, 108]
abbrev dktX1_clashes_1 : List UInt8 := dkwX1_clashes_1 ++ dktX1_clashes_2
def dkwX1_clashes_0 : List UInt8 := [3, 60, 42, 180, 0, 72, 180, 0, 18, 185, 0, 164, 1, 0, 77, 44, 185, 0, 168, 1, 0, 153, 0, 24]
abbrev dktX1_clashes_0 : List UInt8 := dkwX1_clashes_0 ++ dktX1_clashes_1
theorem dksX1_clashes_0 : cX1_clashes.data.toList.drop 0 = dktX1_clashes_0 := by decide +kernel
theorem dksX1_clashes_1 : cX1_clashes.data.toList.drop 24 = dktX1_clashes_1 := dk_seg dksX1_clashes_0 24 rfl rfl
theorem dksX1_clashes_2 : cX1_clashes.data.toList.drop 48 = dktX1_clashes_2 := dk_seg dksX1_clashes_1 24 rfl rfl
theorem dX1_clashes_0 : decode cX1_clashes 0 = .ok (.iconst 0, 1) := dk_3 (dk_at dksX1_clashes_0 0 rfl rfl)
theorem dX1_clashes_1 : decode cX1_clashes 1 = .ok (.istore_n 1, 1) := dk_60 (dk_at dksX1_clashes_0 1 rfl rfl)
theorem dX1_clashes_2 : decode cX1_clashes 2 = .ok (.aload_n 0, 1) := dk_42 (dk_at dksX1_clashes_0 2 rfl rfl)
theorem dX1_clashes_3 : decode cX1_clashes 3 = .ok (.getfield 72, 3) := dk_180 0 72 (dk_at dksX1_clashes_0 3 rfl rfl)
theorem dX1_clashes_6 : decode cX1_clashes 6 = .ok (.getfield 18, 3) := dk_180 0 18 (dk_at dksX1_clashes_0 6 rfl rfl)
theorem dX1_clashes_9 : decode cX1_clashes 9 = .ok (.invokeinterface 164 1, 5) := by decide +kernel
theorem dX1_clashes_14 : decode cX1_clashes 14 = .ok (.astore_n 2, 1) := dk_77 (dk_at dksX1_clashes_0 14 rfl rfl)
theorem dX1_clashes_15 : decode cX1_clashes 15 = .ok (.aload_n 2, 1) := dk_44 (dk_at dksX1_clashes_0 15 rfl rfl)
theorem dX1_clashes_16 : decode cX1_clashes 16 = .ok (.invokeinterface 168 1, 5) := by decide +kernel
theorem dX1_clashes_21 : decode cX1_clashes 21 = .ok (.ifCond .eq 24, 3) := dk_153 0 24 (dk_at dksX1_clashes_0 21 rfl rfl)
theorem dX1_clashes_24 : decode cX1_clashes 24 = .ok (.aload_n 2, 1) := dk_44 (dk_at dksX1_clashes_1 0 rfl rfl)
theorem dX1_clashes_25 : decode cX1_clashes 25 = .ok (.invokeinterface 174 1, 5) := by decide +kernel
theorem dX1_clashes_30 : decode cX1_clashes 30 = .ok (.checkcast 178, 3) := dk_192 0 178 (dk_at dksX1_clashes_1 6 rfl rfl)
theorem dX1_clashes_33 : decode cX1_clashes 33 = .ok (.astore_n 3, 1) := dk_78 (dk_at dksX1_clashes_1 9 rfl rfl)
theorem dX1_clashes_34 : decode cX1_clashes 34 = .ok (.iload_n 1, 1) := dk_27 (dk_at dksX1_clashes_1 10 rfl rfl)
theorem dX1_clashes_35 : decode cX1_clashes 35 = .ok (.aload_n 0, 1) := dk_42 (dk_at dksX1_clashes_1 11 rfl rfl)
theorem dX1_clashes_36 : decode cX1_clashes 36 = .ok (.aload_n 3, 1) := dk_45 (dk_at dksX1_clashes_1 12 rfl rfl)
theorem dX1_clashes_37 : decode cX1_clashes 37 = .ok (.invokevirtual 195, 3) := dk_182 0 195 (dk_at dksX1_clashes_1 13 rfl rfl)
theorem dX1_clashes_40 : decode cX1_clashes 40 = .ok (.iadd, 1) := dk_96 (dk_at dksX1_clashes_1 16 rfl rfl)
theorem dX1_clashes_41 : decode cX1_clashes 41 = .ok (.istore_n 1, 1) := dk_60 (dk_at dksX1_clashes_1 17 rfl rfl)
theorem dX1_clashes_42 : decode cX1_clashes 42 = .ok (.goto (-27), 3) := dk_167 255 229 (dk_at dksX1_clashes_1 18 rfl rfl)
theorem dX1_clashes_45 : decode cX1_clashes 45 = .ok (.iload_n 1, 1) := dk_27 (dk_at dksX1_clashes_1 21 rfl rfl)
theorem dX1_clashes_46 : decode cX1_clashes 46 = .ok (.iconst 2, 1) := dk_5 (dk_at dksX1_clashes_1 22 rfl rfl)
theorem dX1_clashes_47 : decode cX1_clashes 47 = .ok (.idiv, 1) := dk_108 (dk_at dksX1_clashes_1 23 rfl rfl)
theorem dX1_clashes_48 : decode cX1_clashes 48 = .ok (.ireturn, 1) := dk_172 (dk_at dksX1_clashes_2 0 rfl rfl)
abbrev cX1_clashesOf : ByteArray := prog_1_method_24_code
def yX1_clashesOf : MethodName := ⟨RX1, "clashesOf", "(LRoseProverbs$Proverb;)I"⟩
def dkwX1_clashesOf_2 : List UInt8 := [167, 255, 224, 28, 172]
abbrev dktX1_clashesOf_2 : List UInt8 := dkwX1_clashesOf_2 ++ []
def dkwX1_clashesOf_1 : List UInt8 := [45, 185, 0, 174, 1, 0, 192, 0, 178, 58, 4, 28, 43, 25, 4, 182, 0, 187, 184, 0, 191, 96, 61]
abbrev dktX1_clashesOf_1 : List UInt8 := dkwX1_clashesOf_1 ++ dktX1_clashesOf_2
def dkwX1_clashesOf_0 : List UInt8 := [3, 61, 42, 180, 0, 72, 180, 0, 18, 185, 0, 164, 1, 0, 78, 45, 185, 0, 168, 1, 0, 153, 0, 29]
abbrev dktX1_clashesOf_0 : List UInt8 := dkwX1_clashesOf_0 ++ dktX1_clashesOf_1
theorem dksX1_clashesOf_0 : cX1_clashesOf.data.toList.drop 0 = dktX1_clashesOf_0 := by decide +kernel
theorem dksX1_clashesOf_1 : cX1_clashesOf.data.toList.drop 24 = dktX1_clashesOf_1 := dk_seg dksX1_clashesOf_0 24 rfl rfl
theorem dksX1_clashesOf_2 : cX1_clashesOf.data.toList.drop 47 = dktX1_clashesOf_2 := dk_seg dksX1_clashesOf_1 23 rfl rfl
theorem dX1_clashesOf_0 : decode cX1_clashesOf 0 = .ok (.iconst 0, 1) := dk_3 (dk_at dksX1_clashesOf_0 0 rfl rfl)
theorem dX1_clashesOf_1 : decode cX1_clashesOf 1 = .ok (.istore_n 2, 1) := dk_61 (dk_at dksX1_clashesOf_0 1 rfl rfl)
theorem dX1_clashesOf_2 : decode cX1_clashesOf 2 = .ok (.aload_n 0, 1) := dk_42 (dk_at dksX1_clashesOf_0 2 rfl rfl)
theorem dX1_clashesOf_3 : decode cX1_clashesOf 3 = .ok (.getfield 72, 3) := dk_180 0 72 (dk_at dksX1_clashesOf_0 3 rfl rfl)
theorem dX1_clashesOf_6 : decode cX1_clashesOf 6 = .ok (.getfield 18, 3) := dk_180 0 18 (dk_at dksX1_clashesOf_0 6 rfl rfl)
theorem dX1_clashesOf_9 : decode cX1_clashesOf 9 = .ok (.invokeinterface 164 1, 5) := by decide +kernel
theorem dX1_clashesOf_14 : decode cX1_clashesOf 14 = .ok (.astore_n 3, 1) := dk_78 (dk_at dksX1_clashesOf_0 14 rfl rfl)
theorem dX1_clashesOf_15 : decode cX1_clashesOf 15 = .ok (.aload_n 3, 1) := dk_45 (dk_at dksX1_clashesOf_0 15 rfl rfl)
theorem dX1_clashesOf_16 : decode cX1_clashesOf 16 = .ok (.invokeinterface 168 1, 5) := by decide +kernel
theorem dX1_clashesOf_21 : decode cX1_clashesOf 21 = .ok (.ifCond .eq 29, 3) := dk_153 0 29 (dk_at dksX1_clashesOf_0 21 rfl rfl)
theorem dX1_clashesOf_24 : decode cX1_clashesOf 24 = .ok (.aload_n 3, 1) := dk_45 (dk_at dksX1_clashesOf_1 0 rfl rfl)
theorem dX1_clashesOf_25 : decode cX1_clashesOf 25 = .ok (.invokeinterface 174 1, 5) := by decide +kernel
theorem dX1_clashesOf_30 : decode cX1_clashesOf 30 = .ok (.checkcast 178, 3) := dk_192 0 178 (dk_at dksX1_clashesOf_1 6 rfl rfl)
theorem dX1_clashesOf_33 : decode cX1_clashesOf 33 = .ok (.astore 4, 2) := dk_58 4 (dk_at dksX1_clashesOf_1 9 rfl rfl)
theorem dX1_clashesOf_35 : decode cX1_clashesOf 35 = .ok (.iload_n 2, 1) := dk_28 (dk_at dksX1_clashesOf_1 11 rfl rfl)
theorem dX1_clashesOf_36 : decode cX1_clashesOf 36 = .ok (.aload_n 1, 1) := dk_43 (dk_at dksX1_clashesOf_1 12 rfl rfl)
theorem dX1_clashesOf_37 : decode cX1_clashesOf 37 = .ok (.aload 4, 2) := dk_25 4 (dk_at dksX1_clashesOf_1 13 rfl rfl)
theorem dX1_clashesOf_39 : decode cX1_clashesOf 39 = .ok (.invokevirtual 187, 3) := dk_182 0 187 (dk_at dksX1_clashesOf_1 15 rfl rfl)
theorem dX1_clashesOf_42 : decode cX1_clashesOf 42 = .ok (.invokestatic 191, 3) := dk_184 0 191 (dk_at dksX1_clashesOf_1 18 rfl rfl)
theorem dX1_clashesOf_45 : decode cX1_clashesOf 45 = .ok (.iadd, 1) := dk_96 (dk_at dksX1_clashesOf_1 21 rfl rfl)
theorem dX1_clashesOf_46 : decode cX1_clashesOf 46 = .ok (.istore_n 2, 1) := dk_61 (dk_at dksX1_clashesOf_1 22 rfl rfl)
theorem dX1_clashesOf_47 : decode cX1_clashesOf 47 = .ok (.goto (-32), 3) := dk_167 255 224 (dk_at dksX1_clashesOf_2 0 rfl rfl)
theorem dX1_clashesOf_50 : decode cX1_clashesOf 50 = .ok (.iload_n 2, 1) := dk_28 (dk_at dksX1_clashesOf_2 3 rfl rfl)
theorem dX1_clashesOf_51 : decode cX1_clashesOf 51 = .ok (.ireturn, 1) := dk_172 (dk_at dksX1_clashesOf_2 4 rfl rfl)
abbrev cX1_silent : ByteArray := prog_1_method_26_code
def yX1_silent : MethodName := ⟨RX1, "silent", "()I"⟩
def dkwX1_silent_2 : List UInt8 := [132, 2, 1, 167, 255, 209, 27, 172]
abbrev dktX1_silent_2 : List UInt8 := dkwX1_silent_2 ++ []
def dkwX1_silent_1 : List UInt8 := [29, 182, 0, 199, 2, 160, 0, 7, 4, 167, 0, 4, 3, 184, 0, 191, 96, 60, 132, 3, 1, 167, 255, 223]
abbrev dktX1_silent_1 : List UInt8 := dkwX1_silent_1 ++ dktX1_silent_2
def dkwX1_silent_0 : List UInt8 := [3, 60, 3, 61, 28, 16, 16, 162, 0, 47, 3, 62, 29, 16, 12, 162, 0, 33, 27, 42, 180, 0, 72, 28]
abbrev dktX1_silent_0 : List UInt8 := dkwX1_silent_0 ++ dktX1_silent_1
theorem dksX1_silent_0 : cX1_silent.data.toList.drop 0 = dktX1_silent_0 := by decide +kernel
theorem dksX1_silent_1 : cX1_silent.data.toList.drop 24 = dktX1_silent_1 := dk_seg dksX1_silent_0 24 rfl rfl
theorem dksX1_silent_2 : cX1_silent.data.toList.drop 48 = dktX1_silent_2 := dk_seg dksX1_silent_1 24 rfl rfl
theorem dX1_silent_0 : decode cX1_silent 0 = .ok (.iconst 0, 1) := dk_3 (dk_at dksX1_silent_0 0 rfl rfl)
theorem dX1_silent_1 : decode cX1_silent 1 = .ok (.istore_n 1, 1) := dk_60 (dk_at dksX1_silent_0 1 rfl rfl)
theorem dX1_silent_2 : decode cX1_silent 2 = .ok (.iconst 0, 1) := dk_3 (dk_at dksX1_silent_0 2 rfl rfl)
theorem dX1_silent_3 : decode cX1_silent 3 = .ok (.istore_n 2, 1) := dk_61 (dk_at dksX1_silent_0 3 rfl rfl)
theorem dX1_silent_4 : decode cX1_silent 4 = .ok (.iload_n 2, 1) := dk_28 (dk_at dksX1_silent_0 4 rfl rfl)
theorem dX1_silent_5 : decode cX1_silent 5 = .ok (.bipush 16, 2) := dk_16 16 (dk_at dksX1_silent_0 5 rfl rfl)
theorem dX1_silent_7 : decode cX1_silent 7 = .ok (.if_icmp .ge 47, 3) := dk_162 0 47 (dk_at dksX1_silent_0 7 rfl rfl)
theorem dX1_silent_10 : decode cX1_silent 10 = .ok (.iconst 0, 1) := dk_3 (dk_at dksX1_silent_0 10 rfl rfl)
theorem dX1_silent_11 : decode cX1_silent 11 = .ok (.istore_n 3, 1) := dk_62 (dk_at dksX1_silent_0 11 rfl rfl)
theorem dX1_silent_12 : decode cX1_silent 12 = .ok (.iload_n 3, 1) := dk_29 (dk_at dksX1_silent_0 12 rfl rfl)
theorem dX1_silent_13 : decode cX1_silent 13 = .ok (.bipush 12, 2) := dk_16 12 (dk_at dksX1_silent_0 13 rfl rfl)
theorem dX1_silent_15 : decode cX1_silent 15 = .ok (.if_icmp .ge 33, 3) := dk_162 0 33 (dk_at dksX1_silent_0 15 rfl rfl)
theorem dX1_silent_18 : decode cX1_silent 18 = .ok (.iload_n 1, 1) := dk_27 (dk_at dksX1_silent_0 18 rfl rfl)
theorem dX1_silent_19 : decode cX1_silent 19 = .ok (.aload_n 0, 1) := dk_42 (dk_at dksX1_silent_0 19 rfl rfl)
theorem dX1_silent_20 : decode cX1_silent 20 = .ok (.getfield 72, 3) := dk_180 0 72 (dk_at dksX1_silent_0 20 rfl rfl)
theorem dX1_silent_23 : decode cX1_silent 23 = .ok (.iload_n 2, 1) := dk_28 (dk_at dksX1_silent_0 23 rfl rfl)
theorem dX1_silent_24 : decode cX1_silent 24 = .ok (.iload_n 3, 1) := dk_29 (dk_at dksX1_silent_1 0 rfl rfl)
theorem dX1_silent_25 : decode cX1_silent 25 = .ok (.invokevirtual 199, 3) := dk_182 0 199 (dk_at dksX1_silent_1 1 rfl rfl)
theorem dX1_silent_28 : decode cX1_silent 28 = .ok (.iconst (-1), 1) := dk_2 (dk_at dksX1_silent_1 4 rfl rfl)
theorem dX1_silent_29 : decode cX1_silent 29 = .ok (.if_icmp .ne 7, 3) := dk_160 0 7 (dk_at dksX1_silent_1 5 rfl rfl)
theorem dX1_silent_32 : decode cX1_silent 32 = .ok (.iconst 1, 1) := dk_4 (dk_at dksX1_silent_1 8 rfl rfl)
theorem dX1_silent_33 : decode cX1_silent 33 = .ok (.goto 4, 3) := dk_167 0 4 (dk_at dksX1_silent_1 9 rfl rfl)
theorem dX1_silent_36 : decode cX1_silent 36 = .ok (.iconst 0, 1) := dk_3 (dk_at dksX1_silent_1 12 rfl rfl)
theorem dX1_silent_37 : decode cX1_silent 37 = .ok (.invokestatic 191, 3) := dk_184 0 191 (dk_at dksX1_silent_1 13 rfl rfl)
theorem dX1_silent_40 : decode cX1_silent 40 = .ok (.iadd, 1) := dk_96 (dk_at dksX1_silent_1 16 rfl rfl)
theorem dX1_silent_41 : decode cX1_silent 41 = .ok (.istore_n 1, 1) := dk_60 (dk_at dksX1_silent_1 17 rfl rfl)
theorem dX1_silent_42 : decode cX1_silent 42 = .ok (.iinc 3 1, 3) := dk_132 3 1 (dk_at dksX1_silent_1 18 rfl rfl)
theorem dX1_silent_45 : decode cX1_silent 45 = .ok (.goto (-33), 3) := dk_167 255 223 (dk_at dksX1_silent_1 21 rfl rfl)
theorem dX1_silent_48 : decode cX1_silent 48 = .ok (.iinc 2 1, 3) := dk_132 2 1 (dk_at dksX1_silent_2 0 rfl rfl)
theorem dX1_silent_51 : decode cX1_silent 51 = .ok (.goto (-47), 3) := dk_167 255 209 (dk_at dksX1_silent_2 3 rfl rfl)
theorem dX1_silent_54 : decode cX1_silent 54 = .ok (.iload_n 1, 1) := dk_27 (dk_at dksX1_silent_2 6 rfl rfl)
theorem dX1_silent_55 : decode cX1_silent 55 = .ok (.ireturn, 1) := dk_172 (dk_at dksX1_silent_2 7 rfl rfl)
abbrev cX1_account : ByteArray := prog_1_method_28_code
def yX1_account : MethodName := ⟨RX1, "account", "(I)I"⟩
def dkwX1_account_0 : List UInt8 := [27, 133, 9, 20, 0, 235, 184, 0, 105, 184, 0, 237, 42, 180, 0, 72, 180, 0, 34, 27, 46, 172]
abbrev dktX1_account_0 : List UInt8 := dkwX1_account_0 ++ []
theorem dksX1_account_0 : cX1_account.data.toList.drop 0 = dktX1_account_0 := by decide +kernel
theorem dX1_account_0 : decode cX1_account 0 = .ok (.iload_n 1, 1) := dk_27 (dk_at dksX1_account_0 0 rfl rfl)
theorem dX1_account_1 : decode cX1_account 1 = .ok (.i2l, 1) := dk_133 (dk_at dksX1_account_0 1 rfl rfl)
theorem dX1_account_2 : decode cX1_account 2 = .ok (.lconst 0, 1) := dk_9 (dk_at dksX1_account_0 2 rfl rfl)
theorem dX1_account_3 : decode cX1_account 3 = .ok (.ldc2_w 235, 3) := dk_20 0 235 (dk_at dksX1_account_0 3 rfl rfl)
theorem dX1_account_6 : decode cX1_account 6 = .ok (.invokestatic 105, 3) := dk_184 0 105 (dk_at dksX1_account_0 6 rfl rfl)
theorem dX1_account_9 : decode cX1_account 9 = .ok (.invokestatic 237, 3) := dk_184 0 237 (dk_at dksX1_account_0 9 rfl rfl)
theorem dX1_account_12 : decode cX1_account 12 = .ok (.aload_n 0, 1) := dk_42 (dk_at dksX1_account_0 12 rfl rfl)
theorem dX1_account_13 : decode cX1_account 13 = .ok (.getfield 72, 3) := dk_180 0 72 (dk_at dksX1_account_0 13 rfl rfl)
theorem dX1_account_16 : decode cX1_account 16 = .ok (.getfield 34, 3) := dk_180 0 34 (dk_at dksX1_account_0 16 rfl rfl)
theorem dX1_account_19 : decode cX1_account 19 = .ok (.iload_n 1, 1) := dk_27 (dk_at dksX1_account_0 19 rfl rfl)
theorem dX1_account_20 : decode cX1_account 20 = .ok (.iaload, 1) := dk_46 (dk_at dksX1_account_0 20 rfl rfl)
theorem dX1_account_21 : decode cX1_account 21 = .ok (.ireturn, 1) := dk_172 (dk_at dksX1_account_0 21 rfl rfl)
abbrev cX1_checkArgument : ByteArray := prog_1_method_3_code
def yX1_checkArgument : MethodName := ⟨RX1, "checkArgument", "(Z)V"⟩
def dkwX1_checkArgument_0 : List UInt8 := [26, 154, 0, 11, 187, 0, 7, 89, 183, 0, 9, 191, 177]
abbrev dktX1_checkArgument_0 : List UInt8 := dkwX1_checkArgument_0 ++ []
theorem dksX1_checkArgument_0 : cX1_checkArgument.data.toList.drop 0 = dktX1_checkArgument_0 := by decide +kernel
theorem dX1_checkArgument_0 : decode cX1_checkArgument 0 = .ok (.iload_n 0, 1) := dk_26 (dk_at dksX1_checkArgument_0 0 rfl rfl)
theorem dX1_checkArgument_1 : decode cX1_checkArgument 1 = .ok (.ifCond .ne 11, 3) := dk_154 0 11 (dk_at dksX1_checkArgument_0 1 rfl rfl)
theorem dX1_checkArgument_4 : decode cX1_checkArgument 4 = .ok (.new 7, 3) := dk_187 0 7 (dk_at dksX1_checkArgument_0 4 rfl rfl)
theorem dX1_checkArgument_7 : decode cX1_checkArgument 7 = .ok (.dup, 1) := dk_89 (dk_at dksX1_checkArgument_0 7 rfl rfl)
theorem dX1_checkArgument_8 : decode cX1_checkArgument 8 = .ok (.invokespecial 9, 3) := dk_183 0 9 (dk_at dksX1_checkArgument_0 8 rfl rfl)
theorem dX1_checkArgument_11 : decode cX1_checkArgument 11 = .ok (.athrow, 1) := dk_191 (dk_at dksX1_checkArgument_0 11 rfl rfl)
theorem dX1_checkArgument_12 : decode cX1_checkArgument 12 = .ok (.return_, 1) := dk_177 (dk_at dksX1_checkArgument_0 12 rfl rfl)
abbrev cX1_proverb : ByteArray := prog_1_method_33_code
def yX1_proverb : MethodName := ⟨RX1, "proverb", "(II)I"⟩
def dkwX1_proverb_5 : List UInt8 := [187, 0, 7, 89, 183, 0, 9, 191]
abbrev dktX1_proverb_5 : List UInt8 := dkwX1_proverb_5 ++ []
def dkwX1_proverb_4 : List UInt8 := [180, 0, 180, 184, 0, 191, 172, 45, 182, 1, 24, 172, 45, 182, 1, 27, 172, 42, 45, 182, 0, 195, 172]
abbrev dktX1_proverb_4 : List UInt8 := dkwX1_proverb_4 ++ dktX1_proverb_5
def dkwX1_proverb_3 : List UInt8 := [172, 45, 180, 1, 15, 172, 45, 180, 0, 184, 172, 45, 180, 1, 18, 172, 45, 180, 1, 21, 172, 45]
abbrev dktX1_proverb_3 : List UInt8 := dkwX1_proverb_3 ++ dktX1_proverb_4
def dkwX1_proverb_2 : List UInt8 := [45, 180, 1, 1, 172, 45, 180, 1, 4, 172, 45, 180, 1, 7, 172, 45, 180, 1, 9, 172, 45, 180, 1, 12]
abbrev dktX1_proverb_2 : List UInt8 := dkwX1_proverb_2 ++ dktX1_proverb_3
def dkwX1_proverb_1 : List UInt8 := [170, 0, 0, 0, 134, 0, 0, 0, 0, 0, 0, 0, 12, 0, 0, 0, 65, 0, 0, 0, 70, 0, 0, 0, 75, 0, 0, 0, 80, 0, 0, 0, 85, 0, 0, 0, 90, 0, 0, 0, 95, 0, 0, 0, 100, 0, 0, 0, 105, 0, 0, 0, 110, 0, 0, 0, 118, 0, 0, 0, 123, 0, 0, 0, 128]
abbrev dktX1_proverb_1 : List UInt8 := dkwX1_proverb_1 ++ dktX1_proverb_2
def dkwX1_proverb_0 : List UInt8 := [42, 27, 182, 0, 254, 78, 28]
abbrev dktX1_proverb_0 : List UInt8 := dkwX1_proverb_0 ++ dktX1_proverb_1
theorem dksX1_proverb_0 : cX1_proverb.data.toList.drop 0 = dktX1_proverb_0 := by decide +kernel
theorem dksX1_proverb_1 : cX1_proverb.data.toList.drop 7 = dktX1_proverb_1 := dk_seg dksX1_proverb_0 7 rfl rfl
theorem dksX1_proverb_2 : cX1_proverb.data.toList.drop 72 = dktX1_proverb_2 := dk_seg dksX1_proverb_1 65 rfl rfl
theorem dksX1_proverb_3 : cX1_proverb.data.toList.drop 96 = dktX1_proverb_3 := dk_seg dksX1_proverb_2 24 rfl rfl
theorem dksX1_proverb_4 : cX1_proverb.data.toList.drop 118 = dktX1_proverb_4 := dk_seg dksX1_proverb_3 22 rfl rfl
theorem dksX1_proverb_5 : cX1_proverb.data.toList.drop 141 = dktX1_proverb_5 := dk_seg dksX1_proverb_4 23 rfl rfl
theorem dX1_proverb_0 : decode cX1_proverb 0 = .ok (.aload_n 0, 1) := dk_42 (dk_at dksX1_proverb_0 0 rfl rfl)
theorem dX1_proverb_1 : decode cX1_proverb 1 = .ok (.iload_n 1, 1) := dk_27 (dk_at dksX1_proverb_0 1 rfl rfl)
theorem dX1_proverb_2 : decode cX1_proverb 2 = .ok (.invokevirtual 254, 3) := dk_182 0 254 (dk_at dksX1_proverb_0 2 rfl rfl)
theorem dX1_proverb_5 : decode cX1_proverb 5 = .ok (.astore_n 3, 1) := dk_78 (dk_at dksX1_proverb_0 5 rfl rfl)
theorem dX1_proverb_6 : decode cX1_proverb 6 = .ok (.iload_n 2, 1) := dk_28 (dk_at dksX1_proverb_0 6 rfl rfl)
theorem dX1_proverb_7 : decode cX1_proverb 7 = .ok (.tableswitch 134 0 12 #[65, 70, 75, 80, 85, 90, 95, 100, 105, 110, 118, 123, 128], 65) := by decide +kernel
theorem dX1_proverb_72 : decode cX1_proverb 72 = .ok (.aload_n 3, 1) := dk_45 (dk_at dksX1_proverb_2 0 rfl rfl)
theorem dX1_proverb_73 : decode cX1_proverb 73 = .ok (.getfield 257, 3) := dk_180 1 1 (dk_at dksX1_proverb_2 1 rfl rfl)
theorem dX1_proverb_76 : decode cX1_proverb 76 = .ok (.ireturn, 1) := dk_172 (dk_at dksX1_proverb_2 4 rfl rfl)
theorem dX1_proverb_77 : decode cX1_proverb 77 = .ok (.aload_n 3, 1) := dk_45 (dk_at dksX1_proverb_2 5 rfl rfl)
theorem dX1_proverb_78 : decode cX1_proverb 78 = .ok (.getfield 260, 3) := dk_180 1 4 (dk_at dksX1_proverb_2 6 rfl rfl)
theorem dX1_proverb_81 : decode cX1_proverb 81 = .ok (.ireturn, 1) := dk_172 (dk_at dksX1_proverb_2 9 rfl rfl)
theorem dX1_proverb_82 : decode cX1_proverb 82 = .ok (.aload_n 3, 1) := dk_45 (dk_at dksX1_proverb_2 10 rfl rfl)
theorem dX1_proverb_83 : decode cX1_proverb 83 = .ok (.getfield 263, 3) := dk_180 1 7 (dk_at dksX1_proverb_2 11 rfl rfl)
theorem dX1_proverb_86 : decode cX1_proverb 86 = .ok (.ireturn, 1) := dk_172 (dk_at dksX1_proverb_2 14 rfl rfl)
theorem dX1_proverb_87 : decode cX1_proverb 87 = .ok (.aload_n 3, 1) := dk_45 (dk_at dksX1_proverb_2 15 rfl rfl)
theorem dX1_proverb_88 : decode cX1_proverb 88 = .ok (.getfield 265, 3) := dk_180 1 9 (dk_at dksX1_proverb_2 16 rfl rfl)
theorem dX1_proverb_91 : decode cX1_proverb 91 = .ok (.ireturn, 1) := dk_172 (dk_at dksX1_proverb_2 19 rfl rfl)
theorem dX1_proverb_92 : decode cX1_proverb 92 = .ok (.aload_n 3, 1) := dk_45 (dk_at dksX1_proverb_2 20 rfl rfl)
theorem dX1_proverb_93 : decode cX1_proverb 93 = .ok (.getfield 268, 3) := dk_180 1 12 (dk_at dksX1_proverb_2 21 rfl rfl)
theorem dX1_proverb_96 : decode cX1_proverb 96 = .ok (.ireturn, 1) := dk_172 (dk_at dksX1_proverb_3 0 rfl rfl)
theorem dX1_proverb_97 : decode cX1_proverb 97 = .ok (.aload_n 3, 1) := dk_45 (dk_at dksX1_proverb_3 1 rfl rfl)
theorem dX1_proverb_98 : decode cX1_proverb 98 = .ok (.getfield 271, 3) := dk_180 1 15 (dk_at dksX1_proverb_3 2 rfl rfl)
theorem dX1_proverb_101 : decode cX1_proverb 101 = .ok (.ireturn, 1) := dk_172 (dk_at dksX1_proverb_3 5 rfl rfl)
theorem dX1_proverb_102 : decode cX1_proverb 102 = .ok (.aload_n 3, 1) := dk_45 (dk_at dksX1_proverb_3 6 rfl rfl)
theorem dX1_proverb_103 : decode cX1_proverb 103 = .ok (.getfield 184, 3) := dk_180 0 184 (dk_at dksX1_proverb_3 7 rfl rfl)
theorem dX1_proverb_106 : decode cX1_proverb 106 = .ok (.ireturn, 1) := dk_172 (dk_at dksX1_proverb_3 10 rfl rfl)
theorem dX1_proverb_107 : decode cX1_proverb 107 = .ok (.aload_n 3, 1) := dk_45 (dk_at dksX1_proverb_3 11 rfl rfl)
theorem dX1_proverb_108 : decode cX1_proverb 108 = .ok (.getfield 274, 3) := dk_180 1 18 (dk_at dksX1_proverb_3 12 rfl rfl)
theorem dX1_proverb_111 : decode cX1_proverb 111 = .ok (.ireturn, 1) := dk_172 (dk_at dksX1_proverb_3 15 rfl rfl)
theorem dX1_proverb_112 : decode cX1_proverb 112 = .ok (.aload_n 3, 1) := dk_45 (dk_at dksX1_proverb_3 16 rfl rfl)
theorem dX1_proverb_113 : decode cX1_proverb 113 = .ok (.getfield 277, 3) := dk_180 1 21 (dk_at dksX1_proverb_3 17 rfl rfl)
theorem dX1_proverb_116 : decode cX1_proverb 116 = .ok (.ireturn, 1) := dk_172 (dk_at dksX1_proverb_3 20 rfl rfl)
theorem dX1_proverb_117 : decode cX1_proverb 117 = .ok (.aload_n 3, 1) := dk_45 (dk_at dksX1_proverb_3 21 rfl rfl)
theorem dX1_proverb_118 : decode cX1_proverb 118 = .ok (.getfield 180, 3) := dk_180 0 180 (dk_at dksX1_proverb_4 0 rfl rfl)
theorem dX1_proverb_121 : decode cX1_proverb 121 = .ok (.invokestatic 191, 3) := dk_184 0 191 (dk_at dksX1_proverb_4 3 rfl rfl)
theorem dX1_proverb_124 : decode cX1_proverb 124 = .ok (.ireturn, 1) := dk_172 (dk_at dksX1_proverb_4 6 rfl rfl)
theorem dX1_proverb_125 : decode cX1_proverb 125 = .ok (.aload_n 3, 1) := dk_45 (dk_at dksX1_proverb_4 7 rfl rfl)
theorem dX1_proverb_126 : decode cX1_proverb 126 = .ok (.invokevirtual 280, 3) := dk_182 1 24 (dk_at dksX1_proverb_4 8 rfl rfl)
theorem dX1_proverb_129 : decode cX1_proverb 129 = .ok (.ireturn, 1) := dk_172 (dk_at dksX1_proverb_4 11 rfl rfl)
theorem dX1_proverb_130 : decode cX1_proverb 130 = .ok (.aload_n 3, 1) := dk_45 (dk_at dksX1_proverb_4 12 rfl rfl)
theorem dX1_proverb_131 : decode cX1_proverb 131 = .ok (.invokevirtual 283, 3) := dk_182 1 27 (dk_at dksX1_proverb_4 13 rfl rfl)
theorem dX1_proverb_134 : decode cX1_proverb 134 = .ok (.ireturn, 1) := dk_172 (dk_at dksX1_proverb_4 16 rfl rfl)
theorem dX1_proverb_135 : decode cX1_proverb 135 = .ok (.aload_n 0, 1) := dk_42 (dk_at dksX1_proverb_4 17 rfl rfl)
theorem dX1_proverb_136 : decode cX1_proverb 136 = .ok (.aload_n 3, 1) := dk_45 (dk_at dksX1_proverb_4 18 rfl rfl)
theorem dX1_proverb_137 : decode cX1_proverb 137 = .ok (.invokevirtual 195, 3) := dk_182 0 195 (dk_at dksX1_proverb_4 19 rfl rfl)
theorem dX1_proverb_140 : decode cX1_proverb 140 = .ok (.ireturn, 1) := dk_172 (dk_at dksX1_proverb_4 22 rfl rfl)
theorem dX1_proverb_141 : decode cX1_proverb 141 = .ok (.new 7, 3) := dk_187 0 7 (dk_at dksX1_proverb_5 0 rfl rfl)
theorem dX1_proverb_144 : decode cX1_proverb 144 = .ok (.dup, 1) := dk_89 (dk_at dksX1_proverb_5 3 rfl rfl)
theorem dX1_proverb_145 : decode cX1_proverb 145 = .ok (.invokespecial 9, 3) := dk_183 0 9 (dk_at dksX1_proverb_5 4 rfl rfl)
theorem dX1_proverb_148 : decode cX1_proverb 148 = .ok (.athrow, 1) := dk_191 (dk_at dksX1_proverb_5 7 rfl rfl)
abbrev cX1_proverbAt : ByteArray := prog_1_method_29_code
def yX1_proverbAt : MethodName := ⟨RX1, "proverbAt", "(I)LRoseProverbs$Proverb;"⟩
def dkwX1_proverbAt_1 : List UInt8 := [42, 180, 0, 72, 27, 182, 0, 244, 176]
abbrev dktX1_proverbAt_1 : List UInt8 := dkwX1_proverbAt_1 ++ []
def dkwX1_proverbAt_0 : List UInt8 := [27, 133, 9, 42, 180, 0, 72, 180, 0, 18, 185, 0, 24, 1, 0, 4, 100, 133, 184, 0, 105, 184, 0, 241]
abbrev dktX1_proverbAt_0 : List UInt8 := dkwX1_proverbAt_0 ++ dktX1_proverbAt_1
theorem dksX1_proverbAt_0 : cX1_proverbAt.data.toList.drop 0 = dktX1_proverbAt_0 := by decide +kernel
theorem dksX1_proverbAt_1 : cX1_proverbAt.data.toList.drop 24 = dktX1_proverbAt_1 := dk_seg dksX1_proverbAt_0 24 rfl rfl
theorem dX1_proverbAt_0 : decode cX1_proverbAt 0 = .ok (.iload_n 1, 1) := dk_27 (dk_at dksX1_proverbAt_0 0 rfl rfl)
theorem dX1_proverbAt_1 : decode cX1_proverbAt 1 = .ok (.i2l, 1) := dk_133 (dk_at dksX1_proverbAt_0 1 rfl rfl)
theorem dX1_proverbAt_2 : decode cX1_proverbAt 2 = .ok (.lconst 0, 1) := dk_9 (dk_at dksX1_proverbAt_0 2 rfl rfl)
theorem dX1_proverbAt_3 : decode cX1_proverbAt 3 = .ok (.aload_n 0, 1) := dk_42 (dk_at dksX1_proverbAt_0 3 rfl rfl)
theorem dX1_proverbAt_4 : decode cX1_proverbAt 4 = .ok (.getfield 72, 3) := dk_180 0 72 (dk_at dksX1_proverbAt_0 4 rfl rfl)
theorem dX1_proverbAt_7 : decode cX1_proverbAt 7 = .ok (.getfield 18, 3) := dk_180 0 18 (dk_at dksX1_proverbAt_0 7 rfl rfl)
theorem dX1_proverbAt_10 : decode cX1_proverbAt 10 = .ok (.invokeinterface 24 1, 5) := by decide +kernel
theorem dX1_proverbAt_15 : decode cX1_proverbAt 15 = .ok (.iconst 1, 1) := dk_4 (dk_at dksX1_proverbAt_0 15 rfl rfl)
theorem dX1_proverbAt_16 : decode cX1_proverbAt 16 = .ok (.isub, 1) := dk_100 (dk_at dksX1_proverbAt_0 16 rfl rfl)
theorem dX1_proverbAt_17 : decode cX1_proverbAt 17 = .ok (.i2l, 1) := dk_133 (dk_at dksX1_proverbAt_0 17 rfl rfl)
theorem dX1_proverbAt_18 : decode cX1_proverbAt 18 = .ok (.invokestatic 105, 3) := dk_184 0 105 (dk_at dksX1_proverbAt_0 18 rfl rfl)
theorem dX1_proverbAt_21 : decode cX1_proverbAt 21 = .ok (.invokestatic 241, 3) := dk_184 0 241 (dk_at dksX1_proverbAt_0 21 rfl rfl)
theorem dX1_proverbAt_24 : decode cX1_proverbAt 24 = .ok (.aload_n 0, 1) := dk_42 (dk_at dksX1_proverbAt_1 0 rfl rfl)
theorem dX1_proverbAt_25 : decode cX1_proverbAt 25 = .ok (.getfield 72, 3) := dk_180 0 72 (dk_at dksX1_proverbAt_1 1 rfl rfl)
theorem dX1_proverbAt_28 : decode cX1_proverbAt 28 = .ok (.iload_n 1, 1) := dk_27 (dk_at dksX1_proverbAt_1 4 rfl rfl)
theorem dX1_proverbAt_29 : decode cX1_proverbAt 29 = .ok (.invokevirtual 244, 3) := dk_182 0 244 (dk_at dksX1_proverbAt_1 5 rfl rfl)
theorem dX1_proverbAt_32 : decode cX1_proverbAt 32 = .ok (.areturn, 1) := dk_176 (dk_at dksX1_proverbAt_1 8 rfl rfl)
abbrev cX1_checkIndex : ByteArray := prog_1_method_2_code
def yX1_checkIndex : MethodName := ⟨RX1, "checkIndex", "(Z)V"⟩
def dkwX1_checkIndex_0 : List UInt8 := [26, 154, 0, 11, 187, 0, 1, 89, 183, 0, 3, 191, 177]
abbrev dktX1_checkIndex_0 : List UInt8 := dkwX1_checkIndex_0 ++ []
theorem dksX1_checkIndex_0 : cX1_checkIndex.data.toList.drop 0 = dktX1_checkIndex_0 := by decide +kernel
theorem dX1_checkIndex_0 : decode cX1_checkIndex 0 = .ok (.iload_n 0, 1) := dk_26 (dk_at dksX1_checkIndex_0 0 rfl rfl)
theorem dX1_checkIndex_1 : decode cX1_checkIndex 1 = .ok (.ifCond .ne 11, 3) := dk_154 0 11 (dk_at dksX1_checkIndex_0 1 rfl rfl)
theorem dX1_checkIndex_4 : decode cX1_checkIndex 4 = .ok (.new 1, 3) := dk_187 0 1 (dk_at dksX1_checkIndex_0 4 rfl rfl)
theorem dX1_checkIndex_7 : decode cX1_checkIndex 7 = .ok (.dup, 1) := dk_89 (dk_at dksX1_checkIndex_0 7 rfl rfl)
theorem dX1_checkIndex_8 : decode cX1_checkIndex 8 = .ok (.invokespecial 3, 3) := dk_183 0 3 (dk_at dksX1_checkIndex_0 8 rfl rfl)
theorem dX1_checkIndex_11 : decode cX1_checkIndex 11 = .ok (.athrow, 1) := dk_191 (dk_at dksX1_checkIndex_0 11 rfl rfl)
theorem dX1_checkIndex_12 : decode cX1_checkIndex 12 = .ok (.return_, 1) := dk_177 (dk_at dksX1_checkIndex_0 12 rfl rfl)
abbrev cX1_speaks : ByteArray := prog_1_method_34_code
def yX1_speaks : MethodName := ⟨RX1, "speaks", "(III)Z"⟩
def dkwX1_speaks_0 : List UInt8 := [42, 27, 182, 0, 254, 58, 4, 28, 29, 184, 1, 30, 25, 4, 28, 29, 182, 1, 34, 172]
abbrev dktX1_speaks_0 : List UInt8 := dkwX1_speaks_0 ++ []
theorem dksX1_speaks_0 : cX1_speaks.data.toList.drop 0 = dktX1_speaks_0 := by decide +kernel
theorem dX1_speaks_0 : decode cX1_speaks 0 = .ok (.aload_n 0, 1) := dk_42 (dk_at dksX1_speaks_0 0 rfl rfl)
theorem dX1_speaks_1 : decode cX1_speaks 1 = .ok (.iload_n 1, 1) := dk_27 (dk_at dksX1_speaks_0 1 rfl rfl)
theorem dX1_speaks_2 : decode cX1_speaks 2 = .ok (.invokevirtual 254, 3) := dk_182 0 254 (dk_at dksX1_speaks_0 2 rfl rfl)
theorem dX1_speaks_5 : decode cX1_speaks 5 = .ok (.astore 4, 2) := dk_58 4 (dk_at dksX1_speaks_0 5 rfl rfl)
theorem dX1_speaks_7 : decode cX1_speaks 7 = .ok (.iload_n 2, 1) := dk_28 (dk_at dksX1_speaks_0 7 rfl rfl)
theorem dX1_speaks_8 : decode cX1_speaks 8 = .ok (.iload_n 3, 1) := dk_29 (dk_at dksX1_speaks_0 8 rfl rfl)
theorem dX1_speaks_9 : decode cX1_speaks 9 = .ok (.invokestatic 286, 3) := dk_184 1 30 (dk_at dksX1_speaks_0 9 rfl rfl)
theorem dX1_speaks_12 : decode cX1_speaks 12 = .ok (.aload 4, 2) := dk_25 4 (dk_at dksX1_speaks_0 12 rfl rfl)
theorem dX1_speaks_14 : decode cX1_speaks 14 = .ok (.iload_n 2, 1) := dk_28 (dk_at dksX1_speaks_0 14 rfl rfl)
theorem dX1_speaks_15 : decode cX1_speaks 15 = .ok (.iload_n 3, 1) := dk_29 (dk_at dksX1_speaks_0 15 rfl rfl)
theorem dX1_speaks_16 : decode cX1_speaks 16 = .ok (.invokevirtual 290, 3) := dk_182 1 34 (dk_at dksX1_speaks_0 16 rfl rfl)
theorem dX1_speaks_19 : decode cX1_speaks 19 = .ok (.ireturn, 1) := dk_172 (dk_at dksX1_speaks_0 19 rfl rfl)
abbrev cX1_checkPlace : ByteArray := prog_1_method_30_code
def yX1_checkPlace : MethodName := ⟨RX1, "checkPlace", "(II)V"⟩
def dkwX1_checkPlace_1 : List UInt8 := [4, 167, 0, 4, 3, 184, 0, 241, 177]
abbrev dktX1_checkPlace_1 : List UInt8 := dkwX1_checkPlace_1 ++ []
def dkwX1_checkPlace_0 : List UInt8 := [26, 133, 9, 20, 0, 248, 184, 0, 105, 153, 0, 19, 27, 133, 9, 20, 0, 250, 184, 0, 105, 153, 0, 7]
abbrev dktX1_checkPlace_0 : List UInt8 := dkwX1_checkPlace_0 ++ dktX1_checkPlace_1
theorem dksX1_checkPlace_0 : cX1_checkPlace.data.toList.drop 0 = dktX1_checkPlace_0 := by decide +kernel
theorem dksX1_checkPlace_1 : cX1_checkPlace.data.toList.drop 24 = dktX1_checkPlace_1 := dk_seg dksX1_checkPlace_0 24 rfl rfl
theorem dX1_checkPlace_0 : decode cX1_checkPlace 0 = .ok (.iload_n 0, 1) := dk_26 (dk_at dksX1_checkPlace_0 0 rfl rfl)
theorem dX1_checkPlace_1 : decode cX1_checkPlace 1 = .ok (.i2l, 1) := dk_133 (dk_at dksX1_checkPlace_0 1 rfl rfl)
theorem dX1_checkPlace_2 : decode cX1_checkPlace 2 = .ok (.lconst 0, 1) := dk_9 (dk_at dksX1_checkPlace_0 2 rfl rfl)
theorem dX1_checkPlace_3 : decode cX1_checkPlace 3 = .ok (.ldc2_w 248, 3) := dk_20 0 248 (dk_at dksX1_checkPlace_0 3 rfl rfl)
theorem dX1_checkPlace_6 : decode cX1_checkPlace 6 = .ok (.invokestatic 105, 3) := dk_184 0 105 (dk_at dksX1_checkPlace_0 6 rfl rfl)
theorem dX1_checkPlace_9 : decode cX1_checkPlace 9 = .ok (.ifCond .eq 19, 3) := dk_153 0 19 (dk_at dksX1_checkPlace_0 9 rfl rfl)
theorem dX1_checkPlace_12 : decode cX1_checkPlace 12 = .ok (.iload_n 1, 1) := dk_27 (dk_at dksX1_checkPlace_0 12 rfl rfl)
theorem dX1_checkPlace_13 : decode cX1_checkPlace 13 = .ok (.i2l, 1) := dk_133 (dk_at dksX1_checkPlace_0 13 rfl rfl)
theorem dX1_checkPlace_14 : decode cX1_checkPlace 14 = .ok (.lconst 0, 1) := dk_9 (dk_at dksX1_checkPlace_0 14 rfl rfl)
theorem dX1_checkPlace_15 : decode cX1_checkPlace 15 = .ok (.ldc2_w 250, 3) := dk_20 0 250 (dk_at dksX1_checkPlace_0 15 rfl rfl)
theorem dX1_checkPlace_18 : decode cX1_checkPlace 18 = .ok (.invokestatic 105, 3) := dk_184 0 105 (dk_at dksX1_checkPlace_0 18 rfl rfl)
theorem dX1_checkPlace_21 : decode cX1_checkPlace 21 = .ok (.ifCond .eq 7, 3) := dk_153 0 7 (dk_at dksX1_checkPlace_0 21 rfl rfl)
theorem dX1_checkPlace_24 : decode cX1_checkPlace 24 = .ok (.iconst 1, 1) := dk_4 (dk_at dksX1_checkPlace_1 0 rfl rfl)
theorem dX1_checkPlace_25 : decode cX1_checkPlace 25 = .ok (.goto 4, 3) := dk_167 0 4 (dk_at dksX1_checkPlace_1 1 rfl rfl)
theorem dX1_checkPlace_28 : decode cX1_checkPlace 28 = .ok (.iconst 0, 1) := dk_3 (dk_at dksX1_checkPlace_1 4 rfl rfl)
theorem dX1_checkPlace_29 : decode cX1_checkPlace 29 = .ok (.invokestatic 241, 3) := dk_184 0 241 (dk_at dksX1_checkPlace_1 5 rfl rfl)
theorem dX1_checkPlace_32 : decode cX1_checkPlace 32 = .ok (.return_, 1) := dk_177 (dk_at dksX1_checkPlace_1 8 rfl rfl)
abbrev cX1_speakers : ByteArray := prog_1_method_35_code
def yX1_speakers : MethodName := ⟨RX1, "speakers", "(II)I"⟩
def dkwX1_speakers_2 : List UInt8 := [180, 0, 180, 154, 0, 7, 4, 167, 0, 4, 3, 184, 0, 191, 96, 62, 167, 255, 215, 29, 172]
abbrev dktX1_speakers_2 : List UInt8 := dkwX1_speakers_2 ++ []
def dkwX1_speakers_1 : List UInt8 := [185, 0, 168, 1, 0, 153, 0, 37, 25, 4, 185, 0, 174, 1, 0, 192, 0, 178, 58, 5, 29, 25, 5]
abbrev dktX1_speakers_1 : List UInt8 := dkwX1_speakers_1 ++ dktX1_speakers_2
def dkwX1_speakers_0 : List UInt8 := [27, 28, 184, 1, 30, 3, 62, 42, 180, 0, 72, 27, 28, 182, 1, 38, 182, 1, 42, 58, 4, 25, 4]
abbrev dktX1_speakers_0 : List UInt8 := dkwX1_speakers_0 ++ dktX1_speakers_1
theorem dksX1_speakers_0 : cX1_speakers.data.toList.drop 0 = dktX1_speakers_0 := by decide +kernel
theorem dksX1_speakers_1 : cX1_speakers.data.toList.drop 23 = dktX1_speakers_1 := dk_seg dksX1_speakers_0 23 rfl rfl
theorem dksX1_speakers_2 : cX1_speakers.data.toList.drop 46 = dktX1_speakers_2 := dk_seg dksX1_speakers_1 23 rfl rfl
theorem dX1_speakers_0 : decode cX1_speakers 0 = .ok (.iload_n 1, 1) := dk_27 (dk_at dksX1_speakers_0 0 rfl rfl)
theorem dX1_speakers_1 : decode cX1_speakers 1 = .ok (.iload_n 2, 1) := dk_28 (dk_at dksX1_speakers_0 1 rfl rfl)
theorem dX1_speakers_2 : decode cX1_speakers 2 = .ok (.invokestatic 286, 3) := dk_184 1 30 (dk_at dksX1_speakers_0 2 rfl rfl)
theorem dX1_speakers_5 : decode cX1_speakers 5 = .ok (.iconst 0, 1) := dk_3 (dk_at dksX1_speakers_0 5 rfl rfl)
theorem dX1_speakers_6 : decode cX1_speakers 6 = .ok (.istore_n 3, 1) := dk_62 (dk_at dksX1_speakers_0 6 rfl rfl)
theorem dX1_speakers_7 : decode cX1_speakers 7 = .ok (.aload_n 0, 1) := dk_42 (dk_at dksX1_speakers_0 7 rfl rfl)
theorem dX1_speakers_8 : decode cX1_speakers 8 = .ok (.getfield 72, 3) := dk_180 0 72 (dk_at dksX1_speakers_0 8 rfl rfl)
theorem dX1_speakers_11 : decode cX1_speakers 11 = .ok (.iload_n 1, 1) := dk_27 (dk_at dksX1_speakers_0 11 rfl rfl)
theorem dX1_speakers_12 : decode cX1_speakers 12 = .ok (.iload_n 2, 1) := dk_28 (dk_at dksX1_speakers_0 12 rfl rfl)
theorem dX1_speakers_13 : decode cX1_speakers 13 = .ok (.invokevirtual 294, 3) := dk_182 1 38 (dk_at dksX1_speakers_0 13 rfl rfl)
theorem dX1_speakers_16 : decode cX1_speakers 16 = .ok (.invokevirtual 298, 3) := dk_182 1 42 (dk_at dksX1_speakers_0 16 rfl rfl)
theorem dX1_speakers_19 : decode cX1_speakers 19 = .ok (.astore 4, 2) := dk_58 4 (dk_at dksX1_speakers_0 19 rfl rfl)
theorem dX1_speakers_21 : decode cX1_speakers 21 = .ok (.aload 4, 2) := dk_25 4 (dk_at dksX1_speakers_0 21 rfl rfl)
theorem dX1_speakers_23 : decode cX1_speakers 23 = .ok (.invokeinterface 168 1, 5) := by decide +kernel
theorem dX1_speakers_28 : decode cX1_speakers 28 = .ok (.ifCond .eq 37, 3) := dk_153 0 37 (dk_at dksX1_speakers_1 5 rfl rfl)
theorem dX1_speakers_31 : decode cX1_speakers 31 = .ok (.aload 4, 2) := dk_25 4 (dk_at dksX1_speakers_1 8 rfl rfl)
theorem dX1_speakers_33 : decode cX1_speakers 33 = .ok (.invokeinterface 174 1, 5) := by decide +kernel
theorem dX1_speakers_38 : decode cX1_speakers 38 = .ok (.checkcast 178, 3) := dk_192 0 178 (dk_at dksX1_speakers_1 15 rfl rfl)
theorem dX1_speakers_41 : decode cX1_speakers 41 = .ok (.astore 5, 2) := dk_58 5 (dk_at dksX1_speakers_1 18 rfl rfl)
theorem dX1_speakers_43 : decode cX1_speakers 43 = .ok (.iload_n 3, 1) := dk_29 (dk_at dksX1_speakers_1 20 rfl rfl)
theorem dX1_speakers_44 : decode cX1_speakers 44 = .ok (.aload 5, 2) := dk_25 5 (dk_at dksX1_speakers_1 21 rfl rfl)
theorem dX1_speakers_46 : decode cX1_speakers 46 = .ok (.getfield 180, 3) := dk_180 0 180 (dk_at dksX1_speakers_2 0 rfl rfl)
theorem dX1_speakers_49 : decode cX1_speakers 49 = .ok (.ifCond .ne 7, 3) := dk_154 0 7 (dk_at dksX1_speakers_2 3 rfl rfl)
theorem dX1_speakers_52 : decode cX1_speakers 52 = .ok (.iconst 1, 1) := dk_4 (dk_at dksX1_speakers_2 6 rfl rfl)
theorem dX1_speakers_53 : decode cX1_speakers 53 = .ok (.goto 4, 3) := dk_167 0 4 (dk_at dksX1_speakers_2 7 rfl rfl)
theorem dX1_speakers_56 : decode cX1_speakers 56 = .ok (.iconst 0, 1) := dk_3 (dk_at dksX1_speakers_2 10 rfl rfl)
theorem dX1_speakers_57 : decode cX1_speakers 57 = .ok (.invokestatic 191, 3) := dk_184 0 191 (dk_at dksX1_speakers_2 11 rfl rfl)
theorem dX1_speakers_60 : decode cX1_speakers 60 = .ok (.iadd, 1) := dk_96 (dk_at dksX1_speakers_2 14 rfl rfl)
theorem dX1_speakers_61 : decode cX1_speakers 61 = .ok (.istore_n 3, 1) := dk_62 (dk_at dksX1_speakers_2 15 rfl rfl)
theorem dX1_speakers_62 : decode cX1_speakers 62 = .ok (.goto (-41), 3) := dk_167 255 215 (dk_at dksX1_speakers_2 16 rfl rfl)
theorem dX1_speakers_65 : decode cX1_speakers 65 = .ok (.iload_n 3, 1) := dk_29 (dk_at dksX1_speakers_2 19 rfl rfl)
theorem dX1_speakers_66 : decode cX1_speakers 66 = .ok (.ireturn, 1) := dk_172 (dk_at dksX1_speakers_2 20 rfl rfl)
abbrev cX1_speaker : ByteArray := prog_1_method_36_code
def yX1_speaker : MethodName := ⟨RX1, "speaker", "(III)I"⟩
def dkwX1_speaker_2 : List UInt8 := [154, 0, 9, 25, 6, 180, 1, 45, 172, 132, 4, 255, 167, 255, 220, 2, 172]
abbrev dktX1_speaker_2 : List UInt8 := dkwX1_speaker_2 ++ []
def dkwX1_speaker_1 : List UInt8 := [185, 0, 168, 1, 0, 153, 0, 32, 25, 5, 185, 0, 174, 1, 0, 192, 0, 178, 58, 6, 21, 4]
abbrev dktX1_speaker_1 : List UInt8 := dkwX1_speaker_1 ++ dktX1_speaker_2
def dkwX1_speaker_0 : List UInt8 := [27, 28, 184, 1, 30, 29, 54, 4, 42, 180, 0, 72, 27, 28, 182, 1, 38, 182, 1, 42, 58, 5, 25, 5]
abbrev dktX1_speaker_0 : List UInt8 := dkwX1_speaker_0 ++ dktX1_speaker_1
theorem dksX1_speaker_0 : cX1_speaker.data.toList.drop 0 = dktX1_speaker_0 := by decide +kernel
theorem dksX1_speaker_1 : cX1_speaker.data.toList.drop 24 = dktX1_speaker_1 := dk_seg dksX1_speaker_0 24 rfl rfl
theorem dksX1_speaker_2 : cX1_speaker.data.toList.drop 46 = dktX1_speaker_2 := dk_seg dksX1_speaker_1 22 rfl rfl
theorem dX1_speaker_0 : decode cX1_speaker 0 = .ok (.iload_n 1, 1) := dk_27 (dk_at dksX1_speaker_0 0 rfl rfl)
theorem dX1_speaker_1 : decode cX1_speaker 1 = .ok (.iload_n 2, 1) := dk_28 (dk_at dksX1_speaker_0 1 rfl rfl)
theorem dX1_speaker_2 : decode cX1_speaker 2 = .ok (.invokestatic 286, 3) := dk_184 1 30 (dk_at dksX1_speaker_0 2 rfl rfl)
theorem dX1_speaker_5 : decode cX1_speaker 5 = .ok (.iload_n 3, 1) := dk_29 (dk_at dksX1_speaker_0 5 rfl rfl)
theorem dX1_speaker_6 : decode cX1_speaker 6 = .ok (.istore 4, 2) := dk_54 4 (dk_at dksX1_speaker_0 6 rfl rfl)
theorem dX1_speaker_8 : decode cX1_speaker 8 = .ok (.aload_n 0, 1) := dk_42 (dk_at dksX1_speaker_0 8 rfl rfl)
theorem dX1_speaker_9 : decode cX1_speaker 9 = .ok (.getfield 72, 3) := dk_180 0 72 (dk_at dksX1_speaker_0 9 rfl rfl)
theorem dX1_speaker_12 : decode cX1_speaker 12 = .ok (.iload_n 1, 1) := dk_27 (dk_at dksX1_speaker_0 12 rfl rfl)
theorem dX1_speaker_13 : decode cX1_speaker 13 = .ok (.iload_n 2, 1) := dk_28 (dk_at dksX1_speaker_0 13 rfl rfl)
theorem dX1_speaker_14 : decode cX1_speaker 14 = .ok (.invokevirtual 294, 3) := dk_182 1 38 (dk_at dksX1_speaker_0 14 rfl rfl)
theorem dX1_speaker_17 : decode cX1_speaker 17 = .ok (.invokevirtual 298, 3) := dk_182 1 42 (dk_at dksX1_speaker_0 17 rfl rfl)
theorem dX1_speaker_20 : decode cX1_speaker 20 = .ok (.astore 5, 2) := dk_58 5 (dk_at dksX1_speaker_0 20 rfl rfl)
theorem dX1_speaker_22 : decode cX1_speaker 22 = .ok (.aload 5, 2) := dk_25 5 (dk_at dksX1_speaker_0 22 rfl rfl)
theorem dX1_speaker_24 : decode cX1_speaker 24 = .ok (.invokeinterface 168 1, 5) := by decide +kernel
theorem dX1_speaker_29 : decode cX1_speaker 29 = .ok (.ifCond .eq 32, 3) := dk_153 0 32 (dk_at dksX1_speaker_1 5 rfl rfl)
theorem dX1_speaker_32 : decode cX1_speaker 32 = .ok (.aload 5, 2) := dk_25 5 (dk_at dksX1_speaker_1 8 rfl rfl)
theorem dX1_speaker_34 : decode cX1_speaker 34 = .ok (.invokeinterface 174 1, 5) := by decide +kernel
theorem dX1_speaker_39 : decode cX1_speaker 39 = .ok (.checkcast 178, 3) := dk_192 0 178 (dk_at dksX1_speaker_1 15 rfl rfl)
theorem dX1_speaker_42 : decode cX1_speaker 42 = .ok (.astore 6, 2) := dk_58 6 (dk_at dksX1_speaker_1 18 rfl rfl)
theorem dX1_speaker_44 : decode cX1_speaker 44 = .ok (.iload 4, 2) := dk_21 4 (dk_at dksX1_speaker_1 20 rfl rfl)
theorem dX1_speaker_46 : decode cX1_speaker 46 = .ok (.ifCond .ne 9, 3) := dk_154 0 9 (dk_at dksX1_speaker_2 0 rfl rfl)
theorem dX1_speaker_49 : decode cX1_speaker 49 = .ok (.aload 6, 2) := dk_25 6 (dk_at dksX1_speaker_2 3 rfl rfl)
theorem dX1_speaker_51 : decode cX1_speaker 51 = .ok (.getfield 301, 3) := dk_180 1 45 (dk_at dksX1_speaker_2 5 rfl rfl)
theorem dX1_speaker_54 : decode cX1_speaker 54 = .ok (.ireturn, 1) := dk_172 (dk_at dksX1_speaker_2 8 rfl rfl)
theorem dX1_speaker_55 : decode cX1_speaker 55 = .ok (.iinc 4 (-1), 3) := dk_132 4 255 (dk_at dksX1_speaker_2 9 rfl rfl)
theorem dX1_speaker_58 : decode cX1_speaker 58 = .ok (.goto (-36), 3) := dk_167 255 220 (dk_at dksX1_speaker_2 12 rfl rfl)
theorem dX1_speaker_61 : decode cX1_speaker 61 = .ok (.iconst (-1), 1) := dk_2 (dk_at dksX1_speaker_2 15 rfl rfl)
theorem dX1_speaker_62 : decode cX1_speaker 62 = .ok (.ireturn, 1) := dk_172 (dk_at dksX1_speaker_2 16 rfl rfl)
abbrev cX1_voice : ByteArray := prog_1_method_37_code
def yX1_voice : MethodName := ⟨RX1, "voice", "(III)I"⟩
def dkwX1_voice_0 : List UInt8 := [27, 28, 184, 1, 30, 29, 184, 1, 48, 42, 180, 0, 72, 27, 28, 29, 182, 1, 51, 172]
abbrev dktX1_voice_0 : List UInt8 := dkwX1_voice_0 ++ []
theorem dksX1_voice_0 : cX1_voice.data.toList.drop 0 = dktX1_voice_0 := by decide +kernel
theorem dX1_voice_0 : decode cX1_voice 0 = .ok (.iload_n 1, 1) := dk_27 (dk_at dksX1_voice_0 0 rfl rfl)
theorem dX1_voice_1 : decode cX1_voice 1 = .ok (.iload_n 2, 1) := dk_28 (dk_at dksX1_voice_0 1 rfl rfl)
theorem dX1_voice_2 : decode cX1_voice 2 = .ok (.invokestatic 286, 3) := dk_184 1 30 (dk_at dksX1_voice_0 2 rfl rfl)
theorem dX1_voice_5 : decode cX1_voice 5 = .ok (.iload_n 3, 1) := dk_29 (dk_at dksX1_voice_0 5 rfl rfl)
theorem dX1_voice_6 : decode cX1_voice 6 = .ok (.invokestatic 304, 3) := dk_184 1 48 (dk_at dksX1_voice_0 6 rfl rfl)
theorem dX1_voice_9 : decode cX1_voice 9 = .ok (.aload_n 0, 1) := dk_42 (dk_at dksX1_voice_0 9 rfl rfl)
theorem dX1_voice_10 : decode cX1_voice 10 = .ok (.getfield 72, 3) := dk_180 0 72 (dk_at dksX1_voice_0 10 rfl rfl)
theorem dX1_voice_13 : decode cX1_voice 13 = .ok (.iload_n 1, 1) := dk_27 (dk_at dksX1_voice_0 13 rfl rfl)
theorem dX1_voice_14 : decode cX1_voice 14 = .ok (.iload_n 2, 1) := dk_28 (dk_at dksX1_voice_0 14 rfl rfl)
theorem dX1_voice_15 : decode cX1_voice 15 = .ok (.iload_n 3, 1) := dk_29 (dk_at dksX1_voice_0 15 rfl rfl)
theorem dX1_voice_16 : decode cX1_voice 16 = .ok (.invokevirtual 307, 3) := dk_182 1 51 (dk_at dksX1_voice_0 16 rfl rfl)
theorem dX1_voice_19 : decode cX1_voice 19 = .ok (.ireturn, 1) := dk_172 (dk_at dksX1_voice_0 19 rfl rfl)
abbrev cX1_checkWeather : ByteArray := prog_1_method_32_code
def yX1_checkWeather : MethodName := ⟨RX1, "checkWeather", "(I)V"⟩
def dkwX1_checkWeather_0 : List UInt8 := [26, 133, 9, 20, 0, 252, 184, 0, 105, 184, 0, 237, 177]
abbrev dktX1_checkWeather_0 : List UInt8 := dkwX1_checkWeather_0 ++ []
theorem dksX1_checkWeather_0 : cX1_checkWeather.data.toList.drop 0 = dktX1_checkWeather_0 := by decide +kernel
theorem dX1_checkWeather_0 : decode cX1_checkWeather 0 = .ok (.iload_n 0, 1) := dk_26 (dk_at dksX1_checkWeather_0 0 rfl rfl)
theorem dX1_checkWeather_1 : decode cX1_checkWeather 1 = .ok (.i2l, 1) := dk_133 (dk_at dksX1_checkWeather_0 1 rfl rfl)
theorem dX1_checkWeather_2 : decode cX1_checkWeather 2 = .ok (.lconst 0, 1) := dk_9 (dk_at dksX1_checkWeather_0 2 rfl rfl)
theorem dX1_checkWeather_3 : decode cX1_checkWeather 3 = .ok (.ldc2_w 252, 3) := dk_20 0 252 (dk_at dksX1_checkWeather_0 3 rfl rfl)
theorem dX1_checkWeather_6 : decode cX1_checkWeather 6 = .ok (.invokestatic 105, 3) := dk_184 0 105 (dk_at dksX1_checkWeather_0 6 rfl rfl)
theorem dX1_checkWeather_9 : decode cX1_checkWeather 9 = .ok (.invokestatic 237, 3) := dk_184 0 237 (dk_at dksX1_checkWeather_0 9 rfl rfl)
theorem dX1_checkWeather_12 : decode cX1_checkWeather 12 = .ok (.return_, 1) := dk_177 (dk_at dksX1_checkWeather_0 12 rfl rfl)
abbrev cX1_told : ByteArray := prog_1_method_38_code
def yX1_told : MethodName := ⟨RX1, "told", "(II)I"⟩
def dkwX1_told_0 : List UInt8 := [27, 28, 184, 1, 30, 42, 180, 0, 72, 27, 28, 182, 0, 199, 172]
abbrev dktX1_told_0 : List UInt8 := dkwX1_told_0 ++ []
theorem dksX1_told_0 : cX1_told.data.toList.drop 0 = dktX1_told_0 := by decide +kernel
theorem dX1_told_0 : decode cX1_told 0 = .ok (.iload_n 1, 1) := dk_27 (dk_at dksX1_told_0 0 rfl rfl)
theorem dX1_told_1 : decode cX1_told 1 = .ok (.iload_n 2, 1) := dk_28 (dk_at dksX1_told_0 1 rfl rfl)
theorem dX1_told_2 : decode cX1_told 2 = .ok (.invokestatic 286, 3) := dk_184 1 30 (dk_at dksX1_told_0 2 rfl rfl)
theorem dX1_told_5 : decode cX1_told 5 = .ok (.aload_n 0, 1) := dk_42 (dk_at dksX1_told_0 5 rfl rfl)
theorem dX1_told_6 : decode cX1_told 6 = .ok (.getfield 72, 3) := dk_180 0 72 (dk_at dksX1_told_0 6 rfl rfl)
theorem dX1_told_9 : decode cX1_told 9 = .ok (.iload_n 1, 1) := dk_27 (dk_at dksX1_told_0 9 rfl rfl)
theorem dX1_told_10 : decode cX1_told 10 = .ok (.iload_n 2, 1) := dk_28 (dk_at dksX1_told_0 10 rfl rfl)
theorem dX1_told_11 : decode cX1_told 11 = .ok (.invokevirtual 199, 3) := dk_182 0 199 (dk_at dksX1_told_0 11 rfl rfl)
theorem dX1_told_14 : decode cX1_told 14 = .ok (.ireturn, 1) := dk_172 (dk_at dksX1_told_0 14 rfl rfl)
abbrev cX1_lead : ByteArray := prog_1_method_39_code
def yX1_lead : MethodName := ⟨RX1, "lead", "(II)I"⟩
def dkwX1_lead_3 : List UInt8 := [21, 4, 100, 172]
abbrev dktX1_lead_3 : List UInt8 := dkwX1_lead_3 ++ []
def dkwX1_lead_2 : List UInt8 := [21, 5, 182, 1, 55, 184, 1, 58, 54, 4, 132, 5, 1, 167, 255, 225, 42, 180, 0, 72, 29, 182, 1, 55]
abbrev dktX1_lead_2 : List UInt8 := dkwX1_lead_2 ++ dktX1_lead_3
def dkwX1_lead_1 : List UInt8 := [54, 4, 3, 54, 5, 21, 5, 8, 162, 0, 31, 21, 5, 29, 159, 0, 19, 21, 4, 42, 180, 0, 72]
abbrev dktX1_lead_1 : List UInt8 := dkwX1_lead_1 ++ dktX1_lead_2
def dkwX1_lead_0 : List UInt8 := [27, 28, 184, 1, 30, 42, 180, 0, 72, 27, 28, 182, 0, 199, 62, 29, 2, 160, 0, 5, 2, 172, 3]
abbrev dktX1_lead_0 : List UInt8 := dkwX1_lead_0 ++ dktX1_lead_1
theorem dksX1_lead_0 : cX1_lead.data.toList.drop 0 = dktX1_lead_0 := by decide +kernel
theorem dksX1_lead_1 : cX1_lead.data.toList.drop 23 = dktX1_lead_1 := dk_seg dksX1_lead_0 23 rfl rfl
theorem dksX1_lead_2 : cX1_lead.data.toList.drop 46 = dktX1_lead_2 := dk_seg dksX1_lead_1 23 rfl rfl
theorem dksX1_lead_3 : cX1_lead.data.toList.drop 70 = dktX1_lead_3 := dk_seg dksX1_lead_2 24 rfl rfl
theorem dX1_lead_0 : decode cX1_lead 0 = .ok (.iload_n 1, 1) := dk_27 (dk_at dksX1_lead_0 0 rfl rfl)
theorem dX1_lead_1 : decode cX1_lead 1 = .ok (.iload_n 2, 1) := dk_28 (dk_at dksX1_lead_0 1 rfl rfl)
theorem dX1_lead_2 : decode cX1_lead 2 = .ok (.invokestatic 286, 3) := dk_184 1 30 (dk_at dksX1_lead_0 2 rfl rfl)
theorem dX1_lead_5 : decode cX1_lead 5 = .ok (.aload_n 0, 1) := dk_42 (dk_at dksX1_lead_0 5 rfl rfl)
theorem dX1_lead_6 : decode cX1_lead 6 = .ok (.getfield 72, 3) := dk_180 0 72 (dk_at dksX1_lead_0 6 rfl rfl)
theorem dX1_lead_9 : decode cX1_lead 9 = .ok (.iload_n 1, 1) := dk_27 (dk_at dksX1_lead_0 9 rfl rfl)
theorem dX1_lead_10 : decode cX1_lead 10 = .ok (.iload_n 2, 1) := dk_28 (dk_at dksX1_lead_0 10 rfl rfl)
theorem dX1_lead_11 : decode cX1_lead 11 = .ok (.invokevirtual 199, 3) := dk_182 0 199 (dk_at dksX1_lead_0 11 rfl rfl)
theorem dX1_lead_14 : decode cX1_lead 14 = .ok (.istore_n 3, 1) := dk_62 (dk_at dksX1_lead_0 14 rfl rfl)
theorem dX1_lead_15 : decode cX1_lead 15 = .ok (.iload_n 3, 1) := dk_29 (dk_at dksX1_lead_0 15 rfl rfl)
theorem dX1_lead_16 : decode cX1_lead 16 = .ok (.iconst (-1), 1) := dk_2 (dk_at dksX1_lead_0 16 rfl rfl)
theorem dX1_lead_17 : decode cX1_lead 17 = .ok (.if_icmp .ne 5, 3) := dk_160 0 5 (dk_at dksX1_lead_0 17 rfl rfl)
theorem dX1_lead_20 : decode cX1_lead 20 = .ok (.iconst (-1), 1) := dk_2 (dk_at dksX1_lead_0 20 rfl rfl)
theorem dX1_lead_21 : decode cX1_lead 21 = .ok (.ireturn, 1) := dk_172 (dk_at dksX1_lead_0 21 rfl rfl)
theorem dX1_lead_22 : decode cX1_lead 22 = .ok (.iconst 0, 1) := dk_3 (dk_at dksX1_lead_0 22 rfl rfl)
theorem dX1_lead_23 : decode cX1_lead 23 = .ok (.istore 4, 2) := dk_54 4 (dk_at dksX1_lead_1 0 rfl rfl)
theorem dX1_lead_25 : decode cX1_lead 25 = .ok (.iconst 0, 1) := dk_3 (dk_at dksX1_lead_1 2 rfl rfl)
theorem dX1_lead_26 : decode cX1_lead 26 = .ok (.istore 5, 2) := dk_54 5 (dk_at dksX1_lead_1 3 rfl rfl)
theorem dX1_lead_28 : decode cX1_lead 28 = .ok (.iload 5, 2) := dk_21 5 (dk_at dksX1_lead_1 5 rfl rfl)
theorem dX1_lead_30 : decode cX1_lead 30 = .ok (.iconst 5, 1) := dk_8 (dk_at dksX1_lead_1 7 rfl rfl)
theorem dX1_lead_31 : decode cX1_lead 31 = .ok (.if_icmp .ge 31, 3) := dk_162 0 31 (dk_at dksX1_lead_1 8 rfl rfl)
theorem dX1_lead_34 : decode cX1_lead 34 = .ok (.iload 5, 2) := dk_21 5 (dk_at dksX1_lead_1 11 rfl rfl)
theorem dX1_lead_36 : decode cX1_lead 36 = .ok (.iload_n 3, 1) := dk_29 (dk_at dksX1_lead_1 13 rfl rfl)
theorem dX1_lead_37 : decode cX1_lead 37 = .ok (.if_icmp .eq 19, 3) := dk_159 0 19 (dk_at dksX1_lead_1 14 rfl rfl)
theorem dX1_lead_40 : decode cX1_lead 40 = .ok (.iload 4, 2) := dk_21 4 (dk_at dksX1_lead_1 17 rfl rfl)
theorem dX1_lead_42 : decode cX1_lead 42 = .ok (.aload_n 0, 1) := dk_42 (dk_at dksX1_lead_1 19 rfl rfl)
theorem dX1_lead_43 : decode cX1_lead 43 = .ok (.getfield 72, 3) := dk_180 0 72 (dk_at dksX1_lead_1 20 rfl rfl)
theorem dX1_lead_46 : decode cX1_lead 46 = .ok (.iload 5, 2) := dk_21 5 (dk_at dksX1_lead_2 0 rfl rfl)
theorem dX1_lead_48 : decode cX1_lead 48 = .ok (.invokevirtual 311, 3) := dk_182 1 55 (dk_at dksX1_lead_2 2 rfl rfl)
theorem dX1_lead_51 : decode cX1_lead 51 = .ok (.invokestatic 314, 3) := dk_184 1 58 (dk_at dksX1_lead_2 5 rfl rfl)
theorem dX1_lead_54 : decode cX1_lead 54 = .ok (.istore 4, 2) := dk_54 4 (dk_at dksX1_lead_2 8 rfl rfl)
theorem dX1_lead_56 : decode cX1_lead 56 = .ok (.iinc 5 1, 3) := dk_132 5 1 (dk_at dksX1_lead_2 10 rfl rfl)
theorem dX1_lead_59 : decode cX1_lead 59 = .ok (.goto (-31), 3) := dk_167 255 225 (dk_at dksX1_lead_2 13 rfl rfl)
theorem dX1_lead_62 : decode cX1_lead 62 = .ok (.aload_n 0, 1) := dk_42 (dk_at dksX1_lead_2 16 rfl rfl)
theorem dX1_lead_63 : decode cX1_lead 63 = .ok (.getfield 72, 3) := dk_180 0 72 (dk_at dksX1_lead_2 17 rfl rfl)
theorem dX1_lead_66 : decode cX1_lead 66 = .ok (.iload_n 3, 1) := dk_29 (dk_at dksX1_lead_2 20 rfl rfl)
theorem dX1_lead_67 : decode cX1_lead 67 = .ok (.invokevirtual 311, 3) := dk_182 1 55 (dk_at dksX1_lead_2 21 rfl rfl)
theorem dX1_lead_70 : decode cX1_lead 70 = .ok (.iload 4, 2) := dk_21 4 (dk_at dksX1_lead_3 0 rfl rfl)
theorem dX1_lead_72 : decode cX1_lead 72 = .ok (.isub, 1) := dk_100 (dk_at dksX1_lead_3 2 rfl rfl)
theorem dX1_lead_73 : decode cX1_lead 73 = .ok (.ireturn, 1) := dk_172 (dk_at dksX1_lead_3 3 rfl rfl)
abbrev cX1_why : ByteArray := prog_1_method_41_code
def yX1_why : MethodName := ⟨RX1, "why", "(IIII)I"⟩
def dkwX1_why_6 : List UInt8 := [180, 0, 72, 180, 1, 63, 29, 46, 96, 167, 0, 4, 3, 172]
abbrev dktX1_why_6 : List UInt8 := dkwX1_why_6 ++ []
def dkwX1_why_5 : List UInt8 := [180, 0, 72, 29, 182, 1, 55, 100, 184, 1, 71, 172, 21, 6, 7, 160, 0, 19, 17, 1, 144, 42]
abbrev dktX1_why_5 : List UInt8 := dkwX1_why_5 ++ dktX1_why_6
def dkwX1_why_4 : List UInt8 := [21, 6, 6, 160, 0, 32, 17, 39, 15, 17, 3, 232, 42, 180, 0, 72, 21, 5, 182, 1, 55, 96, 42]
abbrev dktX1_why_4 : List UInt8 := dkwX1_why_4 ++ dktX1_why_5
def dkwX1_why_3 : List UInt8 := [160, 0, 24, 21, 6, 5, 162, 0, 7, 3, 167, 0, 13, 16, 100, 21, 6, 4, 100, 104, 21, 5, 96, 172]
abbrev dktX1_why_3 : List UInt8 := dkwX1_why_3 ++ dktX1_why_4
def dkwX1_why_2 : List UInt8 := [54, 5, 42, 21, 5, 29, 182, 1, 68, 54, 6, 21, 4, 154, 0, 6, 21, 6, 172, 21, 4, 4]
abbrev dktX1_why_2 : List UInt8 := dkwX1_why_2 ++ dktX1_why_3
def dkwX1_why_1 : List UInt8 := [184, 0, 105, 153, 0, 7, 4, 167, 0, 4, 3, 184, 0, 237, 42, 180, 0, 72, 27, 28, 182, 0, 199]
abbrev dktX1_why_1 : List UInt8 := dkwX1_why_1 ++ dktX1_why_2
def dkwX1_why_0 : List UInt8 := [27, 28, 184, 1, 30, 29, 133, 9, 20, 0, 252, 184, 0, 105, 153, 0, 20, 21, 4, 133, 9, 20, 1, 66]
abbrev dktX1_why_0 : List UInt8 := dkwX1_why_0 ++ dktX1_why_1
theorem dksX1_why_0 : cX1_why.data.toList.drop 0 = dktX1_why_0 := by decide +kernel
theorem dksX1_why_1 : cX1_why.data.toList.drop 24 = dktX1_why_1 := dk_seg dksX1_why_0 24 rfl rfl
theorem dksX1_why_2 : cX1_why.data.toList.drop 47 = dktX1_why_2 := dk_seg dksX1_why_1 23 rfl rfl
theorem dksX1_why_3 : cX1_why.data.toList.drop 69 = dktX1_why_3 := dk_seg dksX1_why_2 22 rfl rfl
theorem dksX1_why_4 : cX1_why.data.toList.drop 93 = dktX1_why_4 := dk_seg dksX1_why_3 24 rfl rfl
theorem dksX1_why_5 : cX1_why.data.toList.drop 116 = dktX1_why_5 := dk_seg dksX1_why_4 23 rfl rfl
theorem dksX1_why_6 : cX1_why.data.toList.drop 138 = dktX1_why_6 := dk_seg dksX1_why_5 22 rfl rfl
theorem dX1_why_0 : decode cX1_why 0 = .ok (.iload_n 1, 1) := dk_27 (dk_at dksX1_why_0 0 rfl rfl)
theorem dX1_why_1 : decode cX1_why 1 = .ok (.iload_n 2, 1) := dk_28 (dk_at dksX1_why_0 1 rfl rfl)
theorem dX1_why_2 : decode cX1_why 2 = .ok (.invokestatic 286, 3) := dk_184 1 30 (dk_at dksX1_why_0 2 rfl rfl)
theorem dX1_why_5 : decode cX1_why 5 = .ok (.iload_n 3, 1) := dk_29 (dk_at dksX1_why_0 5 rfl rfl)
theorem dX1_why_6 : decode cX1_why 6 = .ok (.i2l, 1) := dk_133 (dk_at dksX1_why_0 6 rfl rfl)
theorem dX1_why_7 : decode cX1_why 7 = .ok (.lconst 0, 1) := dk_9 (dk_at dksX1_why_0 7 rfl rfl)
theorem dX1_why_8 : decode cX1_why 8 = .ok (.ldc2_w 252, 3) := dk_20 0 252 (dk_at dksX1_why_0 8 rfl rfl)
theorem dX1_why_11 : decode cX1_why 11 = .ok (.invokestatic 105, 3) := dk_184 0 105 (dk_at dksX1_why_0 11 rfl rfl)
theorem dX1_why_14 : decode cX1_why 14 = .ok (.ifCond .eq 20, 3) := dk_153 0 20 (dk_at dksX1_why_0 14 rfl rfl)
theorem dX1_why_17 : decode cX1_why 17 = .ok (.iload 4, 2) := dk_21 4 (dk_at dksX1_why_0 17 rfl rfl)
theorem dX1_why_19 : decode cX1_why 19 = .ok (.i2l, 1) := dk_133 (dk_at dksX1_why_0 19 rfl rfl)
theorem dX1_why_20 : decode cX1_why 20 = .ok (.lconst 0, 1) := dk_9 (dk_at dksX1_why_0 20 rfl rfl)
theorem dX1_why_21 : decode cX1_why 21 = .ok (.ldc2_w 322, 3) := dk_20 1 66 (dk_at dksX1_why_0 21 rfl rfl)
theorem dX1_why_24 : decode cX1_why 24 = .ok (.invokestatic 105, 3) := dk_184 0 105 (dk_at dksX1_why_1 0 rfl rfl)
theorem dX1_why_27 : decode cX1_why 27 = .ok (.ifCond .eq 7, 3) := dk_153 0 7 (dk_at dksX1_why_1 3 rfl rfl)
theorem dX1_why_30 : decode cX1_why 30 = .ok (.iconst 1, 1) := dk_4 (dk_at dksX1_why_1 6 rfl rfl)
theorem dX1_why_31 : decode cX1_why 31 = .ok (.goto 4, 3) := dk_167 0 4 (dk_at dksX1_why_1 7 rfl rfl)
theorem dX1_why_34 : decode cX1_why 34 = .ok (.iconst 0, 1) := dk_3 (dk_at dksX1_why_1 10 rfl rfl)
theorem dX1_why_35 : decode cX1_why 35 = .ok (.invokestatic 237, 3) := dk_184 0 237 (dk_at dksX1_why_1 11 rfl rfl)
theorem dX1_why_38 : decode cX1_why 38 = .ok (.aload_n 0, 1) := dk_42 (dk_at dksX1_why_1 14 rfl rfl)
theorem dX1_why_39 : decode cX1_why 39 = .ok (.getfield 72, 3) := dk_180 0 72 (dk_at dksX1_why_1 15 rfl rfl)
theorem dX1_why_42 : decode cX1_why 42 = .ok (.iload_n 1, 1) := dk_27 (dk_at dksX1_why_1 18 rfl rfl)
theorem dX1_why_43 : decode cX1_why 43 = .ok (.iload_n 2, 1) := dk_28 (dk_at dksX1_why_1 19 rfl rfl)
theorem dX1_why_44 : decode cX1_why 44 = .ok (.invokevirtual 199, 3) := dk_182 0 199 (dk_at dksX1_why_1 20 rfl rfl)
theorem dX1_why_47 : decode cX1_why 47 = .ok (.istore 5, 2) := dk_54 5 (dk_at dksX1_why_2 0 rfl rfl)
theorem dX1_why_49 : decode cX1_why 49 = .ok (.aload_n 0, 1) := dk_42 (dk_at dksX1_why_2 2 rfl rfl)
theorem dX1_why_50 : decode cX1_why 50 = .ok (.iload 5, 2) := dk_21 5 (dk_at dksX1_why_2 3 rfl rfl)
theorem dX1_why_52 : decode cX1_why 52 = .ok (.iload_n 3, 1) := dk_29 (dk_at dksX1_why_2 5 rfl rfl)
theorem dX1_why_53 : decode cX1_why 53 = .ok (.invokevirtual 324, 3) := dk_182 1 68 (dk_at dksX1_why_2 6 rfl rfl)
theorem dX1_why_56 : decode cX1_why 56 = .ok (.istore 6, 2) := dk_54 6 (dk_at dksX1_why_2 9 rfl rfl)
theorem dX1_why_58 : decode cX1_why 58 = .ok (.iload 4, 2) := dk_21 4 (dk_at dksX1_why_2 11 rfl rfl)
theorem dX1_why_60 : decode cX1_why 60 = .ok (.ifCond .ne 6, 3) := dk_154 0 6 (dk_at dksX1_why_2 13 rfl rfl)
theorem dX1_why_63 : decode cX1_why 63 = .ok (.iload 6, 2) := dk_21 6 (dk_at dksX1_why_2 16 rfl rfl)
theorem dX1_why_65 : decode cX1_why 65 = .ok (.ireturn, 1) := dk_172 (dk_at dksX1_why_2 18 rfl rfl)
theorem dX1_why_66 : decode cX1_why 66 = .ok (.iload 4, 2) := dk_21 4 (dk_at dksX1_why_2 19 rfl rfl)
theorem dX1_why_68 : decode cX1_why 68 = .ok (.iconst 1, 1) := dk_4 (dk_at dksX1_why_2 21 rfl rfl)
theorem dX1_why_69 : decode cX1_why 69 = .ok (.if_icmp .ne 24, 3) := dk_160 0 24 (dk_at dksX1_why_3 0 rfl rfl)
theorem dX1_why_72 : decode cX1_why 72 = .ok (.iload 6, 2) := dk_21 6 (dk_at dksX1_why_3 3 rfl rfl)
theorem dX1_why_74 : decode cX1_why 74 = .ok (.iconst 2, 1) := dk_5 (dk_at dksX1_why_3 5 rfl rfl)
theorem dX1_why_75 : decode cX1_why 75 = .ok (.if_icmp .ge 7, 3) := dk_162 0 7 (dk_at dksX1_why_3 6 rfl rfl)
theorem dX1_why_78 : decode cX1_why 78 = .ok (.iconst 0, 1) := dk_3 (dk_at dksX1_why_3 9 rfl rfl)
theorem dX1_why_79 : decode cX1_why 79 = .ok (.goto 13, 3) := dk_167 0 13 (dk_at dksX1_why_3 10 rfl rfl)
theorem dX1_why_82 : decode cX1_why 82 = .ok (.bipush 100, 2) := dk_16 100 (dk_at dksX1_why_3 13 rfl rfl)
theorem dX1_why_84 : decode cX1_why 84 = .ok (.iload 6, 2) := dk_21 6 (dk_at dksX1_why_3 15 rfl rfl)
theorem dX1_why_86 : decode cX1_why 86 = .ok (.iconst 1, 1) := dk_4 (dk_at dksX1_why_3 17 rfl rfl)
theorem dX1_why_87 : decode cX1_why 87 = .ok (.isub, 1) := dk_100 (dk_at dksX1_why_3 18 rfl rfl)
theorem dX1_why_88 : decode cX1_why 88 = .ok (.imul, 1) := dk_104 (dk_at dksX1_why_3 19 rfl rfl)
theorem dX1_why_89 : decode cX1_why 89 = .ok (.iload 5, 2) := dk_21 5 (dk_at dksX1_why_3 20 rfl rfl)
theorem dX1_why_91 : decode cX1_why 91 = .ok (.iadd, 1) := dk_96 (dk_at dksX1_why_3 22 rfl rfl)
theorem dX1_why_92 : decode cX1_why 92 = .ok (.ireturn, 1) := dk_172 (dk_at dksX1_why_3 23 rfl rfl)
theorem dX1_why_93 : decode cX1_why 93 = .ok (.iload 6, 2) := dk_21 6 (dk_at dksX1_why_4 0 rfl rfl)
theorem dX1_why_95 : decode cX1_why 95 = .ok (.iconst 3, 1) := dk_6 (dk_at dksX1_why_4 2 rfl rfl)
theorem dX1_why_96 : decode cX1_why 96 = .ok (.if_icmp .ne 32, 3) := dk_160 0 32 (dk_at dksX1_why_4 3 rfl rfl)
theorem dX1_why_99 : decode cX1_why 99 = .ok (.sipush 9999, 3) := dk_17 39 15 (dk_at dksX1_why_4 6 rfl rfl)
theorem dX1_why_102 : decode cX1_why 102 = .ok (.sipush 1000, 3) := dk_17 3 232 (dk_at dksX1_why_4 9 rfl rfl)
theorem dX1_why_105 : decode cX1_why 105 = .ok (.aload_n 0, 1) := dk_42 (dk_at dksX1_why_4 12 rfl rfl)
theorem dX1_why_106 : decode cX1_why 106 = .ok (.getfield 72, 3) := dk_180 0 72 (dk_at dksX1_why_4 13 rfl rfl)
theorem dX1_why_109 : decode cX1_why 109 = .ok (.iload 5, 2) := dk_21 5 (dk_at dksX1_why_4 16 rfl rfl)
theorem dX1_why_111 : decode cX1_why 111 = .ok (.invokevirtual 311, 3) := dk_182 1 55 (dk_at dksX1_why_4 18 rfl rfl)
theorem dX1_why_114 : decode cX1_why 114 = .ok (.iadd, 1) := dk_96 (dk_at dksX1_why_4 21 rfl rfl)
theorem dX1_why_115 : decode cX1_why 115 = .ok (.aload_n 0, 1) := dk_42 (dk_at dksX1_why_4 22 rfl rfl)
theorem dX1_why_116 : decode cX1_why 116 = .ok (.getfield 72, 3) := dk_180 0 72 (dk_at dksX1_why_5 0 rfl rfl)
theorem dX1_why_119 : decode cX1_why 119 = .ok (.iload_n 3, 1) := dk_29 (dk_at dksX1_why_5 3 rfl rfl)
theorem dX1_why_120 : decode cX1_why 120 = .ok (.invokevirtual 311, 3) := dk_182 1 55 (dk_at dksX1_why_5 4 rfl rfl)
theorem dX1_why_123 : decode cX1_why 123 = .ok (.isub, 1) := dk_100 (dk_at dksX1_why_5 7 rfl rfl)
theorem dX1_why_124 : decode cX1_why 124 = .ok (.invokestatic 327, 3) := dk_184 1 71 (dk_at dksX1_why_5 8 rfl rfl)
theorem dX1_why_127 : decode cX1_why 127 = .ok (.ireturn, 1) := dk_172 (dk_at dksX1_why_5 11 rfl rfl)
theorem dX1_why_128 : decode cX1_why 128 = .ok (.iload 6, 2) := dk_21 6 (dk_at dksX1_why_5 12 rfl rfl)
theorem dX1_why_130 : decode cX1_why 130 = .ok (.iconst 4, 1) := dk_7 (dk_at dksX1_why_5 14 rfl rfl)
theorem dX1_why_131 : decode cX1_why 131 = .ok (.if_icmp .ne 19, 3) := dk_160 0 19 (dk_at dksX1_why_5 15 rfl rfl)
theorem dX1_why_134 : decode cX1_why 134 = .ok (.sipush 400, 3) := dk_17 1 144 (dk_at dksX1_why_5 18 rfl rfl)
theorem dX1_why_137 : decode cX1_why 137 = .ok (.aload_n 0, 1) := dk_42 (dk_at dksX1_why_5 21 rfl rfl)
theorem dX1_why_138 : decode cX1_why 138 = .ok (.getfield 72, 3) := dk_180 0 72 (dk_at dksX1_why_6 0 rfl rfl)
theorem dX1_why_141 : decode cX1_why 141 = .ok (.getfield 319, 3) := dk_180 1 63 (dk_at dksX1_why_6 3 rfl rfl)
theorem dX1_why_144 : decode cX1_why 144 = .ok (.iload_n 3, 1) := dk_29 (dk_at dksX1_why_6 6 rfl rfl)
theorem dX1_why_145 : decode cX1_why 145 = .ok (.iaload, 1) := dk_46 (dk_at dksX1_why_6 7 rfl rfl)
theorem dX1_why_146 : decode cX1_why 146 = .ok (.iadd, 1) := dk_96 (dk_at dksX1_why_6 8 rfl rfl)
theorem dX1_why_147 : decode cX1_why 147 = .ok (.goto 4, 3) := dk_167 0 4 (dk_at dksX1_why_6 9 rfl rfl)
theorem dX1_why_150 : decode cX1_why 150 = .ok (.iconst 0, 1) := dk_3 (dk_at dksX1_why_6 12 rfl rfl)
theorem dX1_why_151 : decode cX1_why 151 = .ok (.ireturn, 1) := dk_172 (dk_at dksX1_why_6 13 rfl rfl)
abbrev cX1_reason : ByteArray := prog_1_method_40_code
def yX1_reason : MethodName := ⟨RX1, "reason", "(II)I"⟩
def dkwX1_reason_2 : List UInt8 := [6, 167, 0, 4, 7, 172]
abbrev dktX1_reason_2 : List UInt8 := dkwX1_reason_2 ++ []
def dkwX1_reason_1 : List UInt8 := [154, 0, 5, 5, 172, 42, 180, 0, 72, 28, 182, 1, 55, 42, 180, 0, 72, 27, 182, 1, 55, 162, 0, 7]
abbrev dktX1_reason_1 : List UInt8 := dkwX1_reason_1 ++ dktX1_reason_2
def dkwX1_reason_0 : List UInt8 := [27, 28, 160, 0, 5, 3, 172, 27, 2, 160, 0, 5, 4, 172, 42, 180, 0, 72, 180, 1, 63, 28, 46]
abbrev dktX1_reason_0 : List UInt8 := dkwX1_reason_0 ++ dktX1_reason_1
theorem dksX1_reason_0 : cX1_reason.data.toList.drop 0 = dktX1_reason_0 := by decide +kernel
theorem dksX1_reason_1 : cX1_reason.data.toList.drop 23 = dktX1_reason_1 := dk_seg dksX1_reason_0 23 rfl rfl
theorem dksX1_reason_2 : cX1_reason.data.toList.drop 47 = dktX1_reason_2 := dk_seg dksX1_reason_1 24 rfl rfl
theorem dX1_reason_0 : decode cX1_reason 0 = .ok (.iload_n 1, 1) := dk_27 (dk_at dksX1_reason_0 0 rfl rfl)
theorem dX1_reason_1 : decode cX1_reason 1 = .ok (.iload_n 2, 1) := dk_28 (dk_at dksX1_reason_0 1 rfl rfl)
theorem dX1_reason_2 : decode cX1_reason 2 = .ok (.if_icmp .ne 5, 3) := dk_160 0 5 (dk_at dksX1_reason_0 2 rfl rfl)
theorem dX1_reason_5 : decode cX1_reason 5 = .ok (.iconst 0, 1) := dk_3 (dk_at dksX1_reason_0 5 rfl rfl)
theorem dX1_reason_6 : decode cX1_reason 6 = .ok (.ireturn, 1) := dk_172 (dk_at dksX1_reason_0 6 rfl rfl)
theorem dX1_reason_7 : decode cX1_reason 7 = .ok (.iload_n 1, 1) := dk_27 (dk_at dksX1_reason_0 7 rfl rfl)
theorem dX1_reason_8 : decode cX1_reason 8 = .ok (.iconst (-1), 1) := dk_2 (dk_at dksX1_reason_0 8 rfl rfl)
theorem dX1_reason_9 : decode cX1_reason 9 = .ok (.if_icmp .ne 5, 3) := dk_160 0 5 (dk_at dksX1_reason_0 9 rfl rfl)
theorem dX1_reason_12 : decode cX1_reason 12 = .ok (.iconst 1, 1) := dk_4 (dk_at dksX1_reason_0 12 rfl rfl)
theorem dX1_reason_13 : decode cX1_reason 13 = .ok (.ireturn, 1) := dk_172 (dk_at dksX1_reason_0 13 rfl rfl)
theorem dX1_reason_14 : decode cX1_reason 14 = .ok (.aload_n 0, 1) := dk_42 (dk_at dksX1_reason_0 14 rfl rfl)
theorem dX1_reason_15 : decode cX1_reason 15 = .ok (.getfield 72, 3) := dk_180 0 72 (dk_at dksX1_reason_0 15 rfl rfl)
theorem dX1_reason_18 : decode cX1_reason 18 = .ok (.getfield 319, 3) := dk_180 1 63 (dk_at dksX1_reason_0 18 rfl rfl)
theorem dX1_reason_21 : decode cX1_reason 21 = .ok (.iload_n 2, 1) := dk_28 (dk_at dksX1_reason_0 21 rfl rfl)
theorem dX1_reason_22 : decode cX1_reason 22 = .ok (.iaload, 1) := dk_46 (dk_at dksX1_reason_0 22 rfl rfl)
theorem dX1_reason_23 : decode cX1_reason 23 = .ok (.ifCond .ne 5, 3) := dk_154 0 5 (dk_at dksX1_reason_1 0 rfl rfl)
theorem dX1_reason_26 : decode cX1_reason 26 = .ok (.iconst 2, 1) := dk_5 (dk_at dksX1_reason_1 3 rfl rfl)
theorem dX1_reason_27 : decode cX1_reason 27 = .ok (.ireturn, 1) := dk_172 (dk_at dksX1_reason_1 4 rfl rfl)
theorem dX1_reason_28 : decode cX1_reason 28 = .ok (.aload_n 0, 1) := dk_42 (dk_at dksX1_reason_1 5 rfl rfl)
theorem dX1_reason_29 : decode cX1_reason 29 = .ok (.getfield 72, 3) := dk_180 0 72 (dk_at dksX1_reason_1 6 rfl rfl)
theorem dX1_reason_32 : decode cX1_reason 32 = .ok (.iload_n 2, 1) := dk_28 (dk_at dksX1_reason_1 9 rfl rfl)
theorem dX1_reason_33 : decode cX1_reason 33 = .ok (.invokevirtual 311, 3) := dk_182 1 55 (dk_at dksX1_reason_1 10 rfl rfl)
theorem dX1_reason_36 : decode cX1_reason 36 = .ok (.aload_n 0, 1) := dk_42 (dk_at dksX1_reason_1 13 rfl rfl)
theorem dX1_reason_37 : decode cX1_reason 37 = .ok (.getfield 72, 3) := dk_180 0 72 (dk_at dksX1_reason_1 14 rfl rfl)
theorem dX1_reason_40 : decode cX1_reason 40 = .ok (.iload_n 1, 1) := dk_27 (dk_at dksX1_reason_1 17 rfl rfl)
theorem dX1_reason_41 : decode cX1_reason 41 = .ok (.invokevirtual 311, 3) := dk_182 1 55 (dk_at dksX1_reason_1 18 rfl rfl)
theorem dX1_reason_44 : decode cX1_reason 44 = .ok (.if_icmp .ge 7, 3) := dk_162 0 7 (dk_at dksX1_reason_1 21 rfl rfl)
theorem dX1_reason_47 : decode cX1_reason 47 = .ok (.iconst 3, 1) := dk_6 (dk_at dksX1_reason_2 0 rfl rfl)
theorem dX1_reason_48 : decode cX1_reason 48 = .ok (.goto 4, 3) := dk_167 0 4 (dk_at dksX1_reason_2 1 rfl rfl)
theorem dX1_reason_51 : decode cX1_reason 51 = .ok (.iconst 4, 1) := dk_7 (dk_at dksX1_reason_2 4 rfl rfl)
theorem dX1_reason_52 : decode cX1_reason 52 = .ok (.ireturn, 1) := dk_172 (dk_at dksX1_reason_2 5 rfl rfl)
abbrev cX1_clash : ByteArray := prog_1_method_42_code
def yX1_clash : MethodName := ⟨RX1, "clash", "(II)Z"⟩
def dkwX1_clash_0 : List UInt8 := [42, 27, 182, 0, 254, 78, 45, 42, 28, 182, 0, 254, 182, 0, 187, 172]
abbrev dktX1_clash_0 : List UInt8 := dkwX1_clash_0 ++ []
theorem dksX1_clash_0 : cX1_clash.data.toList.drop 0 = dktX1_clash_0 := by decide +kernel
theorem dX1_clash_0 : decode cX1_clash 0 = .ok (.aload_n 0, 1) := dk_42 (dk_at dksX1_clash_0 0 rfl rfl)
theorem dX1_clash_1 : decode cX1_clash 1 = .ok (.iload_n 1, 1) := dk_27 (dk_at dksX1_clash_0 1 rfl rfl)
theorem dX1_clash_2 : decode cX1_clash 2 = .ok (.invokevirtual 254, 3) := dk_182 0 254 (dk_at dksX1_clash_0 2 rfl rfl)
theorem dX1_clash_5 : decode cX1_clash 5 = .ok (.astore_n 3, 1) := dk_78 (dk_at dksX1_clash_0 5 rfl rfl)
theorem dX1_clash_6 : decode cX1_clash 6 = .ok (.aload_n 3, 1) := dk_45 (dk_at dksX1_clash_0 6 rfl rfl)
theorem dX1_clash_7 : decode cX1_clash 7 = .ok (.aload_n 0, 1) := dk_42 (dk_at dksX1_clash_0 7 rfl rfl)
theorem dX1_clash_8 : decode cX1_clash 8 = .ok (.iload_n 2, 1) := dk_28 (dk_at dksX1_clash_0 8 rfl rfl)
theorem dX1_clash_9 : decode cX1_clash 9 = .ok (.invokevirtual 254, 3) := dk_182 0 254 (dk_at dksX1_clash_0 9 rfl rfl)
theorem dX1_clash_12 : decode cX1_clash 12 = .ok (.invokevirtual 187, 3) := dk_182 0 187 (dk_at dksX1_clash_0 12 rfl rfl)
theorem dX1_clash_15 : decode cX1_clash 15 = .ok (.ireturn, 1) := dk_172 (dk_at dksX1_clash_0 15 rfl rfl)
abbrev cX1_met : ByteArray := prog_1_method_44_code
def yX1_met : MethodName := ⟨RX1, "met", "(II)I"⟩
def dkwX1_met_0 : List UInt8 := [42, 180, 0, 72, 180, 1, 74, 42, 27, 28, 182, 1, 78, 53, 172]
abbrev dktX1_met_0 : List UInt8 := dkwX1_met_0 ++ []
theorem dksX1_met_0 : cX1_met.data.toList.drop 0 = dktX1_met_0 := by decide +kernel
theorem dX1_met_0 : decode cX1_met 0 = .ok (.aload_n 0, 1) := dk_42 (dk_at dksX1_met_0 0 rfl rfl)
theorem dX1_met_1 : decode cX1_met 1 = .ok (.getfield 72, 3) := dk_180 0 72 (dk_at dksX1_met_0 1 rfl rfl)
theorem dX1_met_4 : decode cX1_met 4 = .ok (.getfield 330, 3) := dk_180 1 74 (dk_at dksX1_met_0 4 rfl rfl)
theorem dX1_met_7 : decode cX1_met 7 = .ok (.aload_n 0, 1) := dk_42 (dk_at dksX1_met_0 7 rfl rfl)
theorem dX1_met_8 : decode cX1_met 8 = .ok (.iload_n 1, 1) := dk_27 (dk_at dksX1_met_0 8 rfl rfl)
theorem dX1_met_9 : decode cX1_met 9 = .ok (.iload_n 2, 1) := dk_28 (dk_at dksX1_met_0 9 rfl rfl)
theorem dX1_met_10 : decode cX1_met 10 = .ok (.invokevirtual 334, 3) := dk_182 1 78 (dk_at dksX1_met_0 10 rfl rfl)
theorem dX1_met_13 : decode cX1_met 13 = .ok (.saload, 1) := dk_53 (dk_at dksX1_met_0 13 rfl rfl)
theorem dX1_met_14 : decode cX1_met 14 = .ok (.ireturn, 1) := dk_172 (dk_at dksX1_met_0 14 rfl rfl)
abbrev cX1_pair : ByteArray := prog_1_method_43_code
def yX1_pair : MethodName := ⟨RX1, "pair", "(II)I"⟩
def dkwX1_pair_2 : List UInt8 := [4, 167, 0, 4, 3, 184, 0, 241, 16, 24, 27, 104, 28, 96, 172]
abbrev dktX1_pair_2 : List UInt8 := dkwX1_pair_2 ++ []
def dkwX1_pair_1 : List UInt8 := [28, 133, 9, 42, 180, 0, 72, 180, 0, 18, 185, 0, 24, 1, 0, 4, 100, 133, 184, 0, 105, 153, 0, 7]
abbrev dktX1_pair_1 : List UInt8 := dkwX1_pair_1 ++ dktX1_pair_2
def dkwX1_pair_0 : List UInt8 := [27, 133, 9, 42, 180, 0, 72, 180, 0, 18, 185, 0, 24, 1, 0, 4, 100, 133, 184, 0, 105, 153, 0, 31]
abbrev dktX1_pair_0 : List UInt8 := dkwX1_pair_0 ++ dktX1_pair_1
theorem dksX1_pair_0 : cX1_pair.data.toList.drop 0 = dktX1_pair_0 := by decide +kernel
theorem dksX1_pair_1 : cX1_pair.data.toList.drop 24 = dktX1_pair_1 := dk_seg dksX1_pair_0 24 rfl rfl
theorem dksX1_pair_2 : cX1_pair.data.toList.drop 48 = dktX1_pair_2 := dk_seg dksX1_pair_1 24 rfl rfl
theorem dX1_pair_0 : decode cX1_pair 0 = .ok (.iload_n 1, 1) := dk_27 (dk_at dksX1_pair_0 0 rfl rfl)
theorem dX1_pair_1 : decode cX1_pair 1 = .ok (.i2l, 1) := dk_133 (dk_at dksX1_pair_0 1 rfl rfl)
theorem dX1_pair_2 : decode cX1_pair 2 = .ok (.lconst 0, 1) := dk_9 (dk_at dksX1_pair_0 2 rfl rfl)
theorem dX1_pair_3 : decode cX1_pair 3 = .ok (.aload_n 0, 1) := dk_42 (dk_at dksX1_pair_0 3 rfl rfl)
theorem dX1_pair_4 : decode cX1_pair 4 = .ok (.getfield 72, 3) := dk_180 0 72 (dk_at dksX1_pair_0 4 rfl rfl)
theorem dX1_pair_7 : decode cX1_pair 7 = .ok (.getfield 18, 3) := dk_180 0 18 (dk_at dksX1_pair_0 7 rfl rfl)
theorem dX1_pair_10 : decode cX1_pair 10 = .ok (.invokeinterface 24 1, 5) := by decide +kernel
theorem dX1_pair_15 : decode cX1_pair 15 = .ok (.iconst 1, 1) := dk_4 (dk_at dksX1_pair_0 15 rfl rfl)
theorem dX1_pair_16 : decode cX1_pair 16 = .ok (.isub, 1) := dk_100 (dk_at dksX1_pair_0 16 rfl rfl)
theorem dX1_pair_17 : decode cX1_pair 17 = .ok (.i2l, 1) := dk_133 (dk_at dksX1_pair_0 17 rfl rfl)
theorem dX1_pair_18 : decode cX1_pair 18 = .ok (.invokestatic 105, 3) := dk_184 0 105 (dk_at dksX1_pair_0 18 rfl rfl)
theorem dX1_pair_21 : decode cX1_pair 21 = .ok (.ifCond .eq 31, 3) := dk_153 0 31 (dk_at dksX1_pair_0 21 rfl rfl)
theorem dX1_pair_24 : decode cX1_pair 24 = .ok (.iload_n 2, 1) := dk_28 (dk_at dksX1_pair_1 0 rfl rfl)
theorem dX1_pair_25 : decode cX1_pair 25 = .ok (.i2l, 1) := dk_133 (dk_at dksX1_pair_1 1 rfl rfl)
theorem dX1_pair_26 : decode cX1_pair 26 = .ok (.lconst 0, 1) := dk_9 (dk_at dksX1_pair_1 2 rfl rfl)
theorem dX1_pair_27 : decode cX1_pair 27 = .ok (.aload_n 0, 1) := dk_42 (dk_at dksX1_pair_1 3 rfl rfl)
theorem dX1_pair_28 : decode cX1_pair 28 = .ok (.getfield 72, 3) := dk_180 0 72 (dk_at dksX1_pair_1 4 rfl rfl)
theorem dX1_pair_31 : decode cX1_pair 31 = .ok (.getfield 18, 3) := dk_180 0 18 (dk_at dksX1_pair_1 7 rfl rfl)
theorem dX1_pair_34 : decode cX1_pair 34 = .ok (.invokeinterface 24 1, 5) := by decide +kernel
theorem dX1_pair_39 : decode cX1_pair 39 = .ok (.iconst 1, 1) := dk_4 (dk_at dksX1_pair_1 15 rfl rfl)
theorem dX1_pair_40 : decode cX1_pair 40 = .ok (.isub, 1) := dk_100 (dk_at dksX1_pair_1 16 rfl rfl)
theorem dX1_pair_41 : decode cX1_pair 41 = .ok (.i2l, 1) := dk_133 (dk_at dksX1_pair_1 17 rfl rfl)
theorem dX1_pair_42 : decode cX1_pair 42 = .ok (.invokestatic 105, 3) := dk_184 0 105 (dk_at dksX1_pair_1 18 rfl rfl)
theorem dX1_pair_45 : decode cX1_pair 45 = .ok (.ifCond .eq 7, 3) := dk_153 0 7 (dk_at dksX1_pair_1 21 rfl rfl)
theorem dX1_pair_48 : decode cX1_pair 48 = .ok (.iconst 1, 1) := dk_4 (dk_at dksX1_pair_2 0 rfl rfl)
theorem dX1_pair_49 : decode cX1_pair 49 = .ok (.goto 4, 3) := dk_167 0 4 (dk_at dksX1_pair_2 1 rfl rfl)
theorem dX1_pair_52 : decode cX1_pair 52 = .ok (.iconst 0, 1) := dk_3 (dk_at dksX1_pair_2 4 rfl rfl)
theorem dX1_pair_53 : decode cX1_pair 53 = .ok (.invokestatic 241, 3) := dk_184 0 241 (dk_at dksX1_pair_2 5 rfl rfl)
theorem dX1_pair_56 : decode cX1_pair 56 = .ok (.bipush 24, 2) := dk_16 24 (dk_at dksX1_pair_2 8 rfl rfl)
theorem dX1_pair_58 : decode cX1_pair 58 = .ok (.iload_n 1, 1) := dk_27 (dk_at dksX1_pair_2 10 rfl rfl)
theorem dX1_pair_59 : decode cX1_pair 59 = .ok (.imul, 1) := dk_104 (dk_at dksX1_pair_2 11 rfl rfl)
theorem dX1_pair_60 : decode cX1_pair 60 = .ok (.iload_n 2, 1) := dk_28 (dk_at dksX1_pair_2 12 rfl rfl)
theorem dX1_pair_61 : decode cX1_pair 61 = .ok (.iadd, 1) := dk_96 (dk_at dksX1_pair_2 13 rfl rfl)
theorem dX1_pair_62 : decode cX1_pair 62 = .ok (.ireturn, 1) := dk_172 (dk_at dksX1_pair_2 14 rfl rfl)
abbrev cX1_beat : ByteArray := prog_1_method_45_code
def yX1_beat : MethodName := ⟨RX1, "beat", "(II)I"⟩
def dkwX1_beat_0 : List UInt8 := [42, 180, 0, 72, 180, 1, 81, 42, 27, 28, 182, 1, 78, 53, 172]
abbrev dktX1_beat_0 : List UInt8 := dkwX1_beat_0 ++ []
theorem dksX1_beat_0 : cX1_beat.data.toList.drop 0 = dktX1_beat_0 := by decide +kernel
theorem dX1_beat_0 : decode cX1_beat 0 = .ok (.aload_n 0, 1) := dk_42 (dk_at dksX1_beat_0 0 rfl rfl)
theorem dX1_beat_1 : decode cX1_beat 1 = .ok (.getfield 72, 3) := dk_180 0 72 (dk_at dksX1_beat_0 1 rfl rfl)
theorem dX1_beat_4 : decode cX1_beat 4 = .ok (.getfield 337, 3) := dk_180 1 81 (dk_at dksX1_beat_0 4 rfl rfl)
theorem dX1_beat_7 : decode cX1_beat 7 = .ok (.aload_n 0, 1) := dk_42 (dk_at dksX1_beat_0 7 rfl rfl)
theorem dX1_beat_8 : decode cX1_beat 8 = .ok (.iload_n 1, 1) := dk_27 (dk_at dksX1_beat_0 8 rfl rfl)
theorem dX1_beat_9 : decode cX1_beat 9 = .ok (.iload_n 2, 1) := dk_28 (dk_at dksX1_beat_0 9 rfl rfl)
theorem dX1_beat_10 : decode cX1_beat 10 = .ok (.invokevirtual 334, 3) := dk_182 1 78 (dk_at dksX1_beat_0 10 rfl rfl)
theorem dX1_beat_13 : decode cX1_beat 13 = .ok (.saload, 1) := dk_53 (dk_at dksX1_beat_0 13 rfl rfl)
theorem dX1_beat_14 : decode cX1_beat 14 = .ok (.ireturn, 1) := dk_172 (dk_at dksX1_beat_0 14 rfl rfl)
abbrev cX1_rival : ByteArray := prog_1_method_46_code
def yX1_rival : MethodName := ⟨RX1, "rival", "(I)I"⟩
def dkwX1_rival_3 : List UInt8 := [167, 255, 202, 29, 172]
abbrev dktX1_rival_3 : List UInt8 := dkwX1_rival_3 ++ []
def dkwX1_rival_2 : List UInt8 := [54, 6, 21, 6, 21, 4, 163, 0, 6, 167, 0, 10, 21, 5, 62, 21, 6, 54, 4, 132, 5, 1]
abbrev dktX1_rival_2 : List UInt8 := dkwX1_rival_2 ++ dktX1_rival_3
def dkwX1_rival_1 : List UInt8 := [185, 0, 24, 1, 0, 162, 0, 43, 42, 180, 0, 72, 180, 1, 81, 16, 24, 21, 5, 104, 27, 96, 53]
abbrev dktX1_rival_1 : List UInt8 := dkwX1_rival_1 ++ dktX1_rival_2
def dkwX1_rival_0 : List UInt8 := [42, 27, 182, 0, 254, 77, 2, 62, 3, 54, 4, 3, 54, 5, 21, 5, 42, 180, 0, 72, 180, 0, 18]
abbrev dktX1_rival_0 : List UInt8 := dkwX1_rival_0 ++ dktX1_rival_1
theorem dksX1_rival_0 : cX1_rival.data.toList.drop 0 = dktX1_rival_0 := by decide +kernel
theorem dksX1_rival_1 : cX1_rival.data.toList.drop 23 = dktX1_rival_1 := dk_seg dksX1_rival_0 23 rfl rfl
theorem dksX1_rival_2 : cX1_rival.data.toList.drop 46 = dktX1_rival_2 := dk_seg dksX1_rival_1 23 rfl rfl
theorem dksX1_rival_3 : cX1_rival.data.toList.drop 68 = dktX1_rival_3 := dk_seg dksX1_rival_2 22 rfl rfl
theorem dX1_rival_0 : decode cX1_rival 0 = .ok (.aload_n 0, 1) := dk_42 (dk_at dksX1_rival_0 0 rfl rfl)
theorem dX1_rival_1 : decode cX1_rival 1 = .ok (.iload_n 1, 1) := dk_27 (dk_at dksX1_rival_0 1 rfl rfl)
theorem dX1_rival_2 : decode cX1_rival 2 = .ok (.invokevirtual 254, 3) := dk_182 0 254 (dk_at dksX1_rival_0 2 rfl rfl)
theorem dX1_rival_5 : decode cX1_rival 5 = .ok (.astore_n 2, 1) := dk_77 (dk_at dksX1_rival_0 5 rfl rfl)
theorem dX1_rival_6 : decode cX1_rival 6 = .ok (.iconst (-1), 1) := dk_2 (dk_at dksX1_rival_0 6 rfl rfl)
theorem dX1_rival_7 : decode cX1_rival 7 = .ok (.istore_n 3, 1) := dk_62 (dk_at dksX1_rival_0 7 rfl rfl)
theorem dX1_rival_8 : decode cX1_rival 8 = .ok (.iconst 0, 1) := dk_3 (dk_at dksX1_rival_0 8 rfl rfl)
theorem dX1_rival_9 : decode cX1_rival 9 = .ok (.istore 4, 2) := dk_54 4 (dk_at dksX1_rival_0 9 rfl rfl)
theorem dX1_rival_11 : decode cX1_rival 11 = .ok (.iconst 0, 1) := dk_3 (dk_at dksX1_rival_0 11 rfl rfl)
theorem dX1_rival_12 : decode cX1_rival 12 = .ok (.istore 5, 2) := dk_54 5 (dk_at dksX1_rival_0 12 rfl rfl)
theorem dX1_rival_14 : decode cX1_rival 14 = .ok (.iload 5, 2) := dk_21 5 (dk_at dksX1_rival_0 14 rfl rfl)
theorem dX1_rival_16 : decode cX1_rival 16 = .ok (.aload_n 0, 1) := dk_42 (dk_at dksX1_rival_0 16 rfl rfl)
theorem dX1_rival_17 : decode cX1_rival 17 = .ok (.getfield 72, 3) := dk_180 0 72 (dk_at dksX1_rival_0 17 rfl rfl)
theorem dX1_rival_20 : decode cX1_rival 20 = .ok (.getfield 18, 3) := dk_180 0 18 (dk_at dksX1_rival_0 20 rfl rfl)
theorem dX1_rival_23 : decode cX1_rival 23 = .ok (.invokeinterface 24 1, 5) := by decide +kernel
theorem dX1_rival_28 : decode cX1_rival 28 = .ok (.if_icmp .ge 43, 3) := dk_162 0 43 (dk_at dksX1_rival_1 5 rfl rfl)
theorem dX1_rival_31 : decode cX1_rival 31 = .ok (.aload_n 0, 1) := dk_42 (dk_at dksX1_rival_1 8 rfl rfl)
theorem dX1_rival_32 : decode cX1_rival 32 = .ok (.getfield 72, 3) := dk_180 0 72 (dk_at dksX1_rival_1 9 rfl rfl)
theorem dX1_rival_35 : decode cX1_rival 35 = .ok (.getfield 337, 3) := dk_180 1 81 (dk_at dksX1_rival_1 12 rfl rfl)
theorem dX1_rival_38 : decode cX1_rival 38 = .ok (.bipush 24, 2) := dk_16 24 (dk_at dksX1_rival_1 15 rfl rfl)
theorem dX1_rival_40 : decode cX1_rival 40 = .ok (.iload 5, 2) := dk_21 5 (dk_at dksX1_rival_1 17 rfl rfl)
theorem dX1_rival_42 : decode cX1_rival 42 = .ok (.imul, 1) := dk_104 (dk_at dksX1_rival_1 19 rfl rfl)
theorem dX1_rival_43 : decode cX1_rival 43 = .ok (.iload_n 1, 1) := dk_27 (dk_at dksX1_rival_1 20 rfl rfl)
theorem dX1_rival_44 : decode cX1_rival 44 = .ok (.iadd, 1) := dk_96 (dk_at dksX1_rival_1 21 rfl rfl)
theorem dX1_rival_45 : decode cX1_rival 45 = .ok (.saload, 1) := dk_53 (dk_at dksX1_rival_1 22 rfl rfl)
theorem dX1_rival_46 : decode cX1_rival 46 = .ok (.istore 6, 2) := dk_54 6 (dk_at dksX1_rival_2 0 rfl rfl)
theorem dX1_rival_48 : decode cX1_rival 48 = .ok (.iload 6, 2) := dk_21 6 (dk_at dksX1_rival_2 2 rfl rfl)
theorem dX1_rival_50 : decode cX1_rival 50 = .ok (.iload 4, 2) := dk_21 4 (dk_at dksX1_rival_2 4 rfl rfl)
theorem dX1_rival_52 : decode cX1_rival 52 = .ok (.if_icmp .gt 6, 3) := dk_163 0 6 (dk_at dksX1_rival_2 6 rfl rfl)
theorem dX1_rival_55 : decode cX1_rival 55 = .ok (.goto 10, 3) := dk_167 0 10 (dk_at dksX1_rival_2 9 rfl rfl)
theorem dX1_rival_58 : decode cX1_rival 58 = .ok (.iload 5, 2) := dk_21 5 (dk_at dksX1_rival_2 12 rfl rfl)
theorem dX1_rival_60 : decode cX1_rival 60 = .ok (.istore_n 3, 1) := dk_62 (dk_at dksX1_rival_2 14 rfl rfl)
theorem dX1_rival_61 : decode cX1_rival 61 = .ok (.iload 6, 2) := dk_21 6 (dk_at dksX1_rival_2 15 rfl rfl)
theorem dX1_rival_63 : decode cX1_rival 63 = .ok (.istore 4, 2) := dk_54 4 (dk_at dksX1_rival_2 17 rfl rfl)
theorem dX1_rival_65 : decode cX1_rival 65 = .ok (.iinc 5 1, 3) := dk_132 5 1 (dk_at dksX1_rival_2 19 rfl rfl)
theorem dX1_rival_68 : decode cX1_rival 68 = .ok (.goto (-54), 3) := dk_167 255 202 (dk_at dksX1_rival_3 0 rfl rfl)
theorem dX1_rival_71 : decode cX1_rival 71 = .ok (.iload_n 3, 1) := dk_29 (dk_at dksX1_rival_3 3 rfl rfl)
theorem dX1_rival_72 : decode cX1_rival 72 = .ok (.ireturn, 1) := dk_172 (dk_at dksX1_rival_3 4 rfl rfl)
abbrev cX1_year : ByteArray := prog_1_method_48_code
def yX1_year : MethodName := ⟨RX1, "year", "(II)I"⟩
def dkwX1_year_1 : List UInt8 := [167, 0, 4, 3, 184, 0, 237, 42, 180, 0, 72, 180, 1, 110, 7, 27, 104, 28, 96, 46, 172]
abbrev dktX1_year_1 : List UInt8 := dkwX1_year_1 ++ []
def dkwX1_year_0 : List UInt8 := [27, 133, 9, 10, 184, 0, 105, 153, 0, 19, 28, 133, 9, 20, 1, 108, 184, 0, 105, 153, 0, 7, 4]
abbrev dktX1_year_0 : List UInt8 := dkwX1_year_0 ++ dktX1_year_1
theorem dksX1_year_0 : cX1_year.data.toList.drop 0 = dktX1_year_0 := by decide +kernel
theorem dksX1_year_1 : cX1_year.data.toList.drop 23 = dktX1_year_1 := dk_seg dksX1_year_0 23 rfl rfl
theorem dX1_year_0 : decode cX1_year 0 = .ok (.iload_n 1, 1) := dk_27 (dk_at dksX1_year_0 0 rfl rfl)
theorem dX1_year_1 : decode cX1_year 1 = .ok (.i2l, 1) := dk_133 (dk_at dksX1_year_0 1 rfl rfl)
theorem dX1_year_2 : decode cX1_year 2 = .ok (.lconst 0, 1) := dk_9 (dk_at dksX1_year_0 2 rfl rfl)
theorem dX1_year_3 : decode cX1_year 3 = .ok (.lconst 1, 1) := dk_10 (dk_at dksX1_year_0 3 rfl rfl)
theorem dX1_year_4 : decode cX1_year 4 = .ok (.invokestatic 105, 3) := dk_184 0 105 (dk_at dksX1_year_0 4 rfl rfl)
theorem dX1_year_7 : decode cX1_year 7 = .ok (.ifCond .eq 19, 3) := dk_153 0 19 (dk_at dksX1_year_0 7 rfl rfl)
theorem dX1_year_10 : decode cX1_year 10 = .ok (.iload_n 2, 1) := dk_28 (dk_at dksX1_year_0 10 rfl rfl)
theorem dX1_year_11 : decode cX1_year 11 = .ok (.i2l, 1) := dk_133 (dk_at dksX1_year_0 11 rfl rfl)
theorem dX1_year_12 : decode cX1_year 12 = .ok (.lconst 0, 1) := dk_9 (dk_at dksX1_year_0 12 rfl rfl)
theorem dX1_year_13 : decode cX1_year 13 = .ok (.ldc2_w 364, 3) := dk_20 1 108 (dk_at dksX1_year_0 13 rfl rfl)
theorem dX1_year_16 : decode cX1_year 16 = .ok (.invokestatic 105, 3) := dk_184 0 105 (dk_at dksX1_year_0 16 rfl rfl)
theorem dX1_year_19 : decode cX1_year 19 = .ok (.ifCond .eq 7, 3) := dk_153 0 7 (dk_at dksX1_year_0 19 rfl rfl)
theorem dX1_year_22 : decode cX1_year 22 = .ok (.iconst 1, 1) := dk_4 (dk_at dksX1_year_0 22 rfl rfl)
theorem dX1_year_23 : decode cX1_year 23 = .ok (.goto 4, 3) := dk_167 0 4 (dk_at dksX1_year_1 0 rfl rfl)
theorem dX1_year_26 : decode cX1_year 26 = .ok (.iconst 0, 1) := dk_3 (dk_at dksX1_year_1 3 rfl rfl)
theorem dX1_year_27 : decode cX1_year 27 = .ok (.invokestatic 237, 3) := dk_184 0 237 (dk_at dksX1_year_1 4 rfl rfl)
theorem dX1_year_30 : decode cX1_year 30 = .ok (.aload_n 0, 1) := dk_42 (dk_at dksX1_year_1 7 rfl rfl)
theorem dX1_year_31 : decode cX1_year 31 = .ok (.getfield 72, 3) := dk_180 0 72 (dk_at dksX1_year_1 8 rfl rfl)
theorem dX1_year_34 : decode cX1_year 34 = .ok (.getfield 366, 3) := dk_180 1 110 (dk_at dksX1_year_1 11 rfl rfl)
theorem dX1_year_37 : decode cX1_year 37 = .ok (.iconst 4, 1) := dk_7 (dk_at dksX1_year_1 14 rfl rfl)
theorem dX1_year_38 : decode cX1_year 38 = .ok (.iload_n 1, 1) := dk_27 (dk_at dksX1_year_1 15 rfl rfl)
theorem dX1_year_39 : decode cX1_year 39 = .ok (.imul, 1) := dk_104 (dk_at dksX1_year_1 16 rfl rfl)
theorem dX1_year_40 : decode cX1_year 40 = .ok (.iload_n 2, 1) := dk_28 (dk_at dksX1_year_1 17 rfl rfl)
theorem dX1_year_41 : decode cX1_year 41 = .ok (.iadd, 1) := dk_96 (dk_at dksX1_year_1 18 rfl rfl)
theorem dX1_year_42 : decode cX1_year 42 = .ok (.iaload, 1) := dk_46 (dk_at dksX1_year_1 19 rfl rfl)
theorem dX1_year_43 : decode cX1_year 43 = .ok (.ireturn, 1) := dk_172 (dk_at dksX1_year_1 20 rfl rfl)
abbrev cX1_dayOf : ByteArray := prog_1_method_49_code
def yX1_dayOf : MethodName := ⟨RX1, "dayOf", "(II)I"⟩
def dkwX1_dayOf_3 : List UInt8 := [180, 1, 119, 27, 51, 172]
abbrev dktX1_dayOf_3 : List UInt8 := dkwX1_dayOf_3 ++ []
def dkwX1_dayOf_2 : List UInt8 := [167, 0, 29, 28, 4, 160, 0, 15, 42, 180, 0, 72, 180, 1, 116, 27, 51, 167, 0, 12, 42, 180, 0, 72]
abbrev dktX1_dayOf_2 : List UInt8 := dkwX1_dayOf_2 ++ dktX1_dayOf_3
def dkwX1_dayOf_1 : List UInt8 := [133, 184, 0, 105, 154, 0, 5, 2, 172, 28, 154, 0, 15, 42, 180, 0, 72, 180, 1, 113, 27, 51]
abbrev dktX1_dayOf_1 : List UInt8 := dkwX1_dayOf_1 ++ dktX1_dayOf_2
def dkwX1_dayOf_0 : List UInt8 := [28, 133, 9, 20, 1, 66, 184, 0, 105, 184, 0, 237, 27, 133, 9, 42, 180, 0, 72, 180, 0, 217, 4, 100]
abbrev dktX1_dayOf_0 : List UInt8 := dkwX1_dayOf_0 ++ dktX1_dayOf_1
theorem dksX1_dayOf_0 : cX1_dayOf.data.toList.drop 0 = dktX1_dayOf_0 := by decide +kernel
theorem dksX1_dayOf_1 : cX1_dayOf.data.toList.drop 24 = dktX1_dayOf_1 := dk_seg dksX1_dayOf_0 24 rfl rfl
theorem dksX1_dayOf_2 : cX1_dayOf.data.toList.drop 46 = dktX1_dayOf_2 := dk_seg dksX1_dayOf_1 22 rfl rfl
theorem dksX1_dayOf_3 : cX1_dayOf.data.toList.drop 70 = dktX1_dayOf_3 := dk_seg dksX1_dayOf_2 24 rfl rfl
theorem dX1_dayOf_0 : decode cX1_dayOf 0 = .ok (.iload_n 2, 1) := dk_28 (dk_at dksX1_dayOf_0 0 rfl rfl)
theorem dX1_dayOf_1 : decode cX1_dayOf 1 = .ok (.i2l, 1) := dk_133 (dk_at dksX1_dayOf_0 1 rfl rfl)
theorem dX1_dayOf_2 : decode cX1_dayOf 2 = .ok (.lconst 0, 1) := dk_9 (dk_at dksX1_dayOf_0 2 rfl rfl)
theorem dX1_dayOf_3 : decode cX1_dayOf 3 = .ok (.ldc2_w 322, 3) := dk_20 1 66 (dk_at dksX1_dayOf_0 3 rfl rfl)
theorem dX1_dayOf_6 : decode cX1_dayOf 6 = .ok (.invokestatic 105, 3) := dk_184 0 105 (dk_at dksX1_dayOf_0 6 rfl rfl)
theorem dX1_dayOf_9 : decode cX1_dayOf 9 = .ok (.invokestatic 237, 3) := dk_184 0 237 (dk_at dksX1_dayOf_0 9 rfl rfl)
theorem dX1_dayOf_12 : decode cX1_dayOf 12 = .ok (.iload_n 1, 1) := dk_27 (dk_at dksX1_dayOf_0 12 rfl rfl)
theorem dX1_dayOf_13 : decode cX1_dayOf 13 = .ok (.i2l, 1) := dk_133 (dk_at dksX1_dayOf_0 13 rfl rfl)
theorem dX1_dayOf_14 : decode cX1_dayOf 14 = .ok (.lconst 0, 1) := dk_9 (dk_at dksX1_dayOf_0 14 rfl rfl)
theorem dX1_dayOf_15 : decode cX1_dayOf 15 = .ok (.aload_n 0, 1) := dk_42 (dk_at dksX1_dayOf_0 15 rfl rfl)
theorem dX1_dayOf_16 : decode cX1_dayOf 16 = .ok (.getfield 72, 3) := dk_180 0 72 (dk_at dksX1_dayOf_0 16 rfl rfl)
theorem dX1_dayOf_19 : decode cX1_dayOf 19 = .ok (.getfield 217, 3) := dk_180 0 217 (dk_at dksX1_dayOf_0 19 rfl rfl)
theorem dX1_dayOf_22 : decode cX1_dayOf 22 = .ok (.iconst 1, 1) := dk_4 (dk_at dksX1_dayOf_0 22 rfl rfl)
theorem dX1_dayOf_23 : decode cX1_dayOf 23 = .ok (.isub, 1) := dk_100 (dk_at dksX1_dayOf_0 23 rfl rfl)
theorem dX1_dayOf_24 : decode cX1_dayOf 24 = .ok (.i2l, 1) := dk_133 (dk_at dksX1_dayOf_1 0 rfl rfl)
theorem dX1_dayOf_25 : decode cX1_dayOf 25 = .ok (.invokestatic 105, 3) := dk_184 0 105 (dk_at dksX1_dayOf_1 1 rfl rfl)
theorem dX1_dayOf_28 : decode cX1_dayOf 28 = .ok (.ifCond .ne 5, 3) := dk_154 0 5 (dk_at dksX1_dayOf_1 4 rfl rfl)
theorem dX1_dayOf_31 : decode cX1_dayOf 31 = .ok (.iconst (-1), 1) := dk_2 (dk_at dksX1_dayOf_1 7 rfl rfl)
theorem dX1_dayOf_32 : decode cX1_dayOf 32 = .ok (.ireturn, 1) := dk_172 (dk_at dksX1_dayOf_1 8 rfl rfl)
theorem dX1_dayOf_33 : decode cX1_dayOf 33 = .ok (.iload_n 2, 1) := dk_28 (dk_at dksX1_dayOf_1 9 rfl rfl)
theorem dX1_dayOf_34 : decode cX1_dayOf 34 = .ok (.ifCond .ne 15, 3) := dk_154 0 15 (dk_at dksX1_dayOf_1 10 rfl rfl)
theorem dX1_dayOf_37 : decode cX1_dayOf 37 = .ok (.aload_n 0, 1) := dk_42 (dk_at dksX1_dayOf_1 13 rfl rfl)
theorem dX1_dayOf_38 : decode cX1_dayOf 38 = .ok (.getfield 72, 3) := dk_180 0 72 (dk_at dksX1_dayOf_1 14 rfl rfl)
theorem dX1_dayOf_41 : decode cX1_dayOf 41 = .ok (.getfield 369, 3) := dk_180 1 113 (dk_at dksX1_dayOf_1 17 rfl rfl)
theorem dX1_dayOf_44 : decode cX1_dayOf 44 = .ok (.iload_n 1, 1) := dk_27 (dk_at dksX1_dayOf_1 20 rfl rfl)
theorem dX1_dayOf_45 : decode cX1_dayOf 45 = .ok (.baload, 1) := dk_51 (dk_at dksX1_dayOf_1 21 rfl rfl)
theorem dX1_dayOf_46 : decode cX1_dayOf 46 = .ok (.goto 29, 3) := dk_167 0 29 (dk_at dksX1_dayOf_2 0 rfl rfl)
theorem dX1_dayOf_49 : decode cX1_dayOf 49 = .ok (.iload_n 2, 1) := dk_28 (dk_at dksX1_dayOf_2 3 rfl rfl)
theorem dX1_dayOf_50 : decode cX1_dayOf 50 = .ok (.iconst 1, 1) := dk_4 (dk_at dksX1_dayOf_2 4 rfl rfl)
theorem dX1_dayOf_51 : decode cX1_dayOf 51 = .ok (.if_icmp .ne 15, 3) := dk_160 0 15 (dk_at dksX1_dayOf_2 5 rfl rfl)
theorem dX1_dayOf_54 : decode cX1_dayOf 54 = .ok (.aload_n 0, 1) := dk_42 (dk_at dksX1_dayOf_2 8 rfl rfl)
theorem dX1_dayOf_55 : decode cX1_dayOf 55 = .ok (.getfield 72, 3) := dk_180 0 72 (dk_at dksX1_dayOf_2 9 rfl rfl)
theorem dX1_dayOf_58 : decode cX1_dayOf 58 = .ok (.getfield 372, 3) := dk_180 1 116 (dk_at dksX1_dayOf_2 12 rfl rfl)
theorem dX1_dayOf_61 : decode cX1_dayOf 61 = .ok (.iload_n 1, 1) := dk_27 (dk_at dksX1_dayOf_2 15 rfl rfl)
theorem dX1_dayOf_62 : decode cX1_dayOf 62 = .ok (.baload, 1) := dk_51 (dk_at dksX1_dayOf_2 16 rfl rfl)
theorem dX1_dayOf_63 : decode cX1_dayOf 63 = .ok (.goto 12, 3) := dk_167 0 12 (dk_at dksX1_dayOf_2 17 rfl rfl)
theorem dX1_dayOf_66 : decode cX1_dayOf 66 = .ok (.aload_n 0, 1) := dk_42 (dk_at dksX1_dayOf_2 20 rfl rfl)
theorem dX1_dayOf_67 : decode cX1_dayOf 67 = .ok (.getfield 72, 3) := dk_180 0 72 (dk_at dksX1_dayOf_2 21 rfl rfl)
theorem dX1_dayOf_70 : decode cX1_dayOf 70 = .ok (.getfield 375, 3) := dk_180 1 119 (dk_at dksX1_dayOf_3 0 rfl rfl)
theorem dX1_dayOf_73 : decode cX1_dayOf 73 = .ok (.iload_n 1, 1) := dk_27 (dk_at dksX1_dayOf_3 3 rfl rfl)
theorem dX1_dayOf_74 : decode cX1_dayOf 74 = .ok (.baload, 1) := dk_51 (dk_at dksX1_dayOf_3 4 rfl rfl)
theorem dX1_dayOf_75 : decode cX1_dayOf 75 = .ok (.ireturn, 1) := dk_172 (dk_at dksX1_dayOf_3 5 rfl rfl)
abbrev cX1_turnsIn : ByteArray := prog_1_method_52_code
def yX1_turnsIn : MethodName := ⟨RX1, "turnsIn", "(II)I"⟩
def dkwX1_turnsIn_2 : List UInt8 := [54, 5, 132, 4, 1, 167, 255, 219, 2, 172]
abbrev dktX1_turnsIn_2 : List UInt8 := dkwX1_turnsIn_2 ++ []
def dkwX1_turnsIn_1 : List UInt8 := [27, 45, 180, 0, 217, 184, 0, 220, 182, 0, 199, 28, 160, 0, 6, 21, 4, 172, 45, 27, 28, 182, 1, 137]
abbrev dktX1_turnsIn_1 : List UInt8 := dkwX1_turnsIn_1 ++ dktX1_turnsIn_2
def dkwX1_turnsIn_0 : List UInt8 := [27, 184, 1, 131, 28, 184, 1, 48, 42, 182, 1, 134, 78, 3, 54, 4, 21, 4, 16, 99, 163, 0, 36, 45]
abbrev dktX1_turnsIn_0 : List UInt8 := dkwX1_turnsIn_0 ++ dktX1_turnsIn_1
theorem dksX1_turnsIn_0 : cX1_turnsIn.data.toList.drop 0 = dktX1_turnsIn_0 := by decide +kernel
theorem dksX1_turnsIn_1 : cX1_turnsIn.data.toList.drop 24 = dktX1_turnsIn_1 := dk_seg dksX1_turnsIn_0 24 rfl rfl
theorem dksX1_turnsIn_2 : cX1_turnsIn.data.toList.drop 48 = dktX1_turnsIn_2 := dk_seg dksX1_turnsIn_1 24 rfl rfl
theorem dX1_turnsIn_0 : decode cX1_turnsIn 0 = .ok (.iload_n 1, 1) := dk_27 (dk_at dksX1_turnsIn_0 0 rfl rfl)
theorem dX1_turnsIn_1 : decode cX1_turnsIn 1 = .ok (.invokestatic 387, 3) := dk_184 1 131 (dk_at dksX1_turnsIn_0 1 rfl rfl)
theorem dX1_turnsIn_4 : decode cX1_turnsIn 4 = .ok (.iload_n 2, 1) := dk_28 (dk_at dksX1_turnsIn_0 4 rfl rfl)
theorem dX1_turnsIn_5 : decode cX1_turnsIn 5 = .ok (.invokestatic 304, 3) := dk_184 1 48 (dk_at dksX1_turnsIn_0 5 rfl rfl)
theorem dX1_turnsIn_8 : decode cX1_turnsIn 8 = .ok (.aload_n 0, 1) := dk_42 (dk_at dksX1_turnsIn_0 8 rfl rfl)
theorem dX1_turnsIn_9 : decode cX1_turnsIn 9 = .ok (.invokevirtual 390, 3) := dk_182 1 134 (dk_at dksX1_turnsIn_0 9 rfl rfl)
theorem dX1_turnsIn_12 : decode cX1_turnsIn 12 = .ok (.astore_n 3, 1) := dk_78 (dk_at dksX1_turnsIn_0 12 rfl rfl)
theorem dX1_turnsIn_13 : decode cX1_turnsIn 13 = .ok (.iconst 0, 1) := dk_3 (dk_at dksX1_turnsIn_0 13 rfl rfl)
theorem dX1_turnsIn_14 : decode cX1_turnsIn 14 = .ok (.istore 4, 2) := dk_54 4 (dk_at dksX1_turnsIn_0 14 rfl rfl)
theorem dX1_turnsIn_16 : decode cX1_turnsIn 16 = .ok (.iload 4, 2) := dk_21 4 (dk_at dksX1_turnsIn_0 16 rfl rfl)
theorem dX1_turnsIn_18 : decode cX1_turnsIn 18 = .ok (.bipush 99, 2) := dk_16 99 (dk_at dksX1_turnsIn_0 18 rfl rfl)
theorem dX1_turnsIn_20 : decode cX1_turnsIn 20 = .ok (.if_icmp .gt 36, 3) := dk_163 0 36 (dk_at dksX1_turnsIn_0 20 rfl rfl)
theorem dX1_turnsIn_23 : decode cX1_turnsIn 23 = .ok (.aload_n 3, 1) := dk_45 (dk_at dksX1_turnsIn_0 23 rfl rfl)
theorem dX1_turnsIn_24 : decode cX1_turnsIn 24 = .ok (.iload_n 1, 1) := dk_27 (dk_at dksX1_turnsIn_1 0 rfl rfl)
theorem dX1_turnsIn_25 : decode cX1_turnsIn 25 = .ok (.aload_n 3, 1) := dk_45 (dk_at dksX1_turnsIn_1 1 rfl rfl)
theorem dX1_turnsIn_26 : decode cX1_turnsIn 26 = .ok (.getfield 217, 3) := dk_180 0 217 (dk_at dksX1_turnsIn_1 2 rfl rfl)
theorem dX1_turnsIn_29 : decode cX1_turnsIn 29 = .ok (.invokestatic 220, 3) := dk_184 0 220 (dk_at dksX1_turnsIn_1 5 rfl rfl)
theorem dX1_turnsIn_32 : decode cX1_turnsIn 32 = .ok (.invokevirtual 199, 3) := dk_182 0 199 (dk_at dksX1_turnsIn_1 8 rfl rfl)
theorem dX1_turnsIn_35 : decode cX1_turnsIn 35 = .ok (.iload_n 2, 1) := dk_28 (dk_at dksX1_turnsIn_1 11 rfl rfl)
theorem dX1_turnsIn_36 : decode cX1_turnsIn 36 = .ok (.if_icmp .ne 6, 3) := dk_160 0 6 (dk_at dksX1_turnsIn_1 12 rfl rfl)
theorem dX1_turnsIn_39 : decode cX1_turnsIn 39 = .ok (.iload 4, 2) := dk_21 4 (dk_at dksX1_turnsIn_1 15 rfl rfl)
theorem dX1_turnsIn_41 : decode cX1_turnsIn 41 = .ok (.ireturn, 1) := dk_172 (dk_at dksX1_turnsIn_1 17 rfl rfl)
theorem dX1_turnsIn_42 : decode cX1_turnsIn 42 = .ok (.aload_n 3, 1) := dk_45 (dk_at dksX1_turnsIn_1 18 rfl rfl)
theorem dX1_turnsIn_43 : decode cX1_turnsIn 43 = .ok (.iload_n 1, 1) := dk_27 (dk_at dksX1_turnsIn_1 19 rfl rfl)
theorem dX1_turnsIn_44 : decode cX1_turnsIn 44 = .ok (.iload_n 2, 1) := dk_28 (dk_at dksX1_turnsIn_1 20 rfl rfl)
theorem dX1_turnsIn_45 : decode cX1_turnsIn 45 = .ok (.invokevirtual 393, 3) := dk_182 1 137 (dk_at dksX1_turnsIn_1 21 rfl rfl)
theorem dX1_turnsIn_48 : decode cX1_turnsIn 48 = .ok (.istore 5, 2) := dk_54 5 (dk_at dksX1_turnsIn_2 0 rfl rfl)
theorem dX1_turnsIn_50 : decode cX1_turnsIn 50 = .ok (.iinc 4 1, 3) := dk_132 4 1 (dk_at dksX1_turnsIn_2 2 rfl rfl)
theorem dX1_turnsIn_53 : decode cX1_turnsIn 53 = .ok (.goto (-37), 3) := dk_167 255 219 (dk_at dksX1_turnsIn_2 5 rfl rfl)
theorem dX1_turnsIn_56 : decode cX1_turnsIn 56 = .ok (.iconst (-1), 1) := dk_2 (dk_at dksX1_turnsIn_2 8 rfl rfl)
theorem dX1_turnsIn_57 : decode cX1_turnsIn 57 = .ok (.ireturn, 1) := dk_172 (dk_at dksX1_turnsIn_2 9 rfl rfl)
abbrev cX1_checkPoint : ByteArray := prog_1_method_31_code
def yX1_checkPoint : MethodName := ⟨RX1, "checkPoint", "(I)V"⟩
def dkwX1_checkPoint_0 : List UInt8 := [26, 133, 9, 20, 0, 248, 184, 0, 105, 184, 0, 241, 177]
abbrev dktX1_checkPoint_0 : List UInt8 := dkwX1_checkPoint_0 ++ []
theorem dksX1_checkPoint_0 : cX1_checkPoint.data.toList.drop 0 = dktX1_checkPoint_0 := by decide +kernel
theorem dX1_checkPoint_0 : decode cX1_checkPoint 0 = .ok (.iload_n 0, 1) := dk_26 (dk_at dksX1_checkPoint_0 0 rfl rfl)
theorem dX1_checkPoint_1 : decode cX1_checkPoint 1 = .ok (.i2l, 1) := dk_133 (dk_at dksX1_checkPoint_0 1 rfl rfl)
theorem dX1_checkPoint_2 : decode cX1_checkPoint 2 = .ok (.lconst 0, 1) := dk_9 (dk_at dksX1_checkPoint_0 2 rfl rfl)
theorem dX1_checkPoint_3 : decode cX1_checkPoint 3 = .ok (.ldc2_w 248, 3) := dk_20 0 248 (dk_at dksX1_checkPoint_0 3 rfl rfl)
theorem dX1_checkPoint_6 : decode cX1_checkPoint 6 = .ok (.invokestatic 105, 3) := dk_184 0 105 (dk_at dksX1_checkPoint_0 6 rfl rfl)
theorem dX1_checkPoint_9 : decode cX1_checkPoint 9 = .ok (.invokestatic 241, 3) := dk_184 0 241 (dk_at dksX1_checkPoint_0 9 rfl rfl)
theorem dX1_checkPoint_12 : decode cX1_checkPoint 12 = .ok (.return_, 1) := dk_177 (dk_at dksX1_checkPoint_0 12 rfl rfl)
abbrev cX1_weightIn : ByteArray := prog_1_method_53_code
def yX1_weightIn : MethodName := ⟨RX1, "weightIn", "(IIII)I"⟩
def dkwX1_weightIn_3 : List UInt8 := [132, 7, 1, 167, 255, 237, 25, 6, 27, 182, 0, 244, 180, 0, 184, 172]
abbrev dktX1_weightIn_3 : List UInt8 := dkwX1_weightIn_3 ++ []
def dkwX1_weightIn_2 : List UInt8 := [182, 1, 134, 58, 6, 3, 54, 7, 21, 7, 21, 4, 162, 0, 18, 25, 6, 28, 29, 182, 1, 137, 54, 8]
abbrev dktX1_weightIn_2 : List UInt8 := dkwX1_weightIn_2 ++ dktX1_weightIn_3
def dkwX1_weightIn_1 : List UInt8 := [21, 4, 133, 9, 20, 1, 140, 184, 0, 105, 153, 0, 7, 4, 167, 0, 4, 3, 184, 0, 237, 42]
abbrev dktX1_weightIn_1 : List UInt8 := dkwX1_weightIn_1 ++ dktX1_weightIn_2
def dkwX1_weightIn_0 : List UInt8 := [42, 27, 182, 0, 254, 58, 5, 28, 184, 1, 131, 29, 133, 9, 20, 0, 252, 184, 0, 105, 153, 0, 20]
abbrev dktX1_weightIn_0 : List UInt8 := dkwX1_weightIn_0 ++ dktX1_weightIn_1
theorem dksX1_weightIn_0 : cX1_weightIn.data.toList.drop 0 = dktX1_weightIn_0 := by decide +kernel
theorem dksX1_weightIn_1 : cX1_weightIn.data.toList.drop 23 = dktX1_weightIn_1 := dk_seg dksX1_weightIn_0 23 rfl rfl
theorem dksX1_weightIn_2 : cX1_weightIn.data.toList.drop 45 = dktX1_weightIn_2 := dk_seg dksX1_weightIn_1 22 rfl rfl
theorem dksX1_weightIn_3 : cX1_weightIn.data.toList.drop 69 = dktX1_weightIn_3 := dk_seg dksX1_weightIn_2 24 rfl rfl
theorem dX1_weightIn_0 : decode cX1_weightIn 0 = .ok (.aload_n 0, 1) := dk_42 (dk_at dksX1_weightIn_0 0 rfl rfl)
theorem dX1_weightIn_1 : decode cX1_weightIn 1 = .ok (.iload_n 1, 1) := dk_27 (dk_at dksX1_weightIn_0 1 rfl rfl)
theorem dX1_weightIn_2 : decode cX1_weightIn 2 = .ok (.invokevirtual 254, 3) := dk_182 0 254 (dk_at dksX1_weightIn_0 2 rfl rfl)
theorem dX1_weightIn_5 : decode cX1_weightIn 5 = .ok (.astore 5, 2) := dk_58 5 (dk_at dksX1_weightIn_0 5 rfl rfl)
theorem dX1_weightIn_7 : decode cX1_weightIn 7 = .ok (.iload_n 2, 1) := dk_28 (dk_at dksX1_weightIn_0 7 rfl rfl)
theorem dX1_weightIn_8 : decode cX1_weightIn 8 = .ok (.invokestatic 387, 3) := dk_184 1 131 (dk_at dksX1_weightIn_0 8 rfl rfl)
theorem dX1_weightIn_11 : decode cX1_weightIn 11 = .ok (.iload_n 3, 1) := dk_29 (dk_at dksX1_weightIn_0 11 rfl rfl)
theorem dX1_weightIn_12 : decode cX1_weightIn 12 = .ok (.i2l, 1) := dk_133 (dk_at dksX1_weightIn_0 12 rfl rfl)
theorem dX1_weightIn_13 : decode cX1_weightIn 13 = .ok (.lconst 0, 1) := dk_9 (dk_at dksX1_weightIn_0 13 rfl rfl)
theorem dX1_weightIn_14 : decode cX1_weightIn 14 = .ok (.ldc2_w 252, 3) := dk_20 0 252 (dk_at dksX1_weightIn_0 14 rfl rfl)
theorem dX1_weightIn_17 : decode cX1_weightIn 17 = .ok (.invokestatic 105, 3) := dk_184 0 105 (dk_at dksX1_weightIn_0 17 rfl rfl)
theorem dX1_weightIn_20 : decode cX1_weightIn 20 = .ok (.ifCond .eq 20, 3) := dk_153 0 20 (dk_at dksX1_weightIn_0 20 rfl rfl)
theorem dX1_weightIn_23 : decode cX1_weightIn 23 = .ok (.iload 4, 2) := dk_21 4 (dk_at dksX1_weightIn_1 0 rfl rfl)
theorem dX1_weightIn_25 : decode cX1_weightIn 25 = .ok (.i2l, 1) := dk_133 (dk_at dksX1_weightIn_1 2 rfl rfl)
theorem dX1_weightIn_26 : decode cX1_weightIn 26 = .ok (.lconst 0, 1) := dk_9 (dk_at dksX1_weightIn_1 3 rfl rfl)
theorem dX1_weightIn_27 : decode cX1_weightIn 27 = .ok (.ldc2_w 396, 3) := dk_20 1 140 (dk_at dksX1_weightIn_1 4 rfl rfl)
theorem dX1_weightIn_30 : decode cX1_weightIn 30 = .ok (.invokestatic 105, 3) := dk_184 0 105 (dk_at dksX1_weightIn_1 7 rfl rfl)
theorem dX1_weightIn_33 : decode cX1_weightIn 33 = .ok (.ifCond .eq 7, 3) := dk_153 0 7 (dk_at dksX1_weightIn_1 10 rfl rfl)
theorem dX1_weightIn_36 : decode cX1_weightIn 36 = .ok (.iconst 1, 1) := dk_4 (dk_at dksX1_weightIn_1 13 rfl rfl)
theorem dX1_weightIn_37 : decode cX1_weightIn 37 = .ok (.goto 4, 3) := dk_167 0 4 (dk_at dksX1_weightIn_1 14 rfl rfl)
theorem dX1_weightIn_40 : decode cX1_weightIn 40 = .ok (.iconst 0, 1) := dk_3 (dk_at dksX1_weightIn_1 17 rfl rfl)
theorem dX1_weightIn_41 : decode cX1_weightIn 41 = .ok (.invokestatic 237, 3) := dk_184 0 237 (dk_at dksX1_weightIn_1 18 rfl rfl)
theorem dX1_weightIn_44 : decode cX1_weightIn 44 = .ok (.aload_n 0, 1) := dk_42 (dk_at dksX1_weightIn_1 21 rfl rfl)
theorem dX1_weightIn_45 : decode cX1_weightIn 45 = .ok (.invokevirtual 390, 3) := dk_182 1 134 (dk_at dksX1_weightIn_2 0 rfl rfl)
theorem dX1_weightIn_48 : decode cX1_weightIn 48 = .ok (.astore 6, 2) := dk_58 6 (dk_at dksX1_weightIn_2 3 rfl rfl)
theorem dX1_weightIn_50 : decode cX1_weightIn 50 = .ok (.iconst 0, 1) := dk_3 (dk_at dksX1_weightIn_2 5 rfl rfl)
theorem dX1_weightIn_51 : decode cX1_weightIn 51 = .ok (.istore 7, 2) := dk_54 7 (dk_at dksX1_weightIn_2 6 rfl rfl)
theorem dX1_weightIn_53 : decode cX1_weightIn 53 = .ok (.iload 7, 2) := dk_21 7 (dk_at dksX1_weightIn_2 8 rfl rfl)
theorem dX1_weightIn_55 : decode cX1_weightIn 55 = .ok (.iload 4, 2) := dk_21 4 (dk_at dksX1_weightIn_2 10 rfl rfl)
theorem dX1_weightIn_57 : decode cX1_weightIn 57 = .ok (.if_icmp .ge 18, 3) := dk_162 0 18 (dk_at dksX1_weightIn_2 12 rfl rfl)
theorem dX1_weightIn_60 : decode cX1_weightIn 60 = .ok (.aload 6, 2) := dk_25 6 (dk_at dksX1_weightIn_2 15 rfl rfl)
theorem dX1_weightIn_62 : decode cX1_weightIn 62 = .ok (.iload_n 2, 1) := dk_28 (dk_at dksX1_weightIn_2 17 rfl rfl)
theorem dX1_weightIn_63 : decode cX1_weightIn 63 = .ok (.iload_n 3, 1) := dk_29 (dk_at dksX1_weightIn_2 18 rfl rfl)
theorem dX1_weightIn_64 : decode cX1_weightIn 64 = .ok (.invokevirtual 393, 3) := dk_182 1 137 (dk_at dksX1_weightIn_2 19 rfl rfl)
theorem dX1_weightIn_67 : decode cX1_weightIn 67 = .ok (.istore 8, 2) := dk_54 8 (dk_at dksX1_weightIn_2 22 rfl rfl)
theorem dX1_weightIn_69 : decode cX1_weightIn 69 = .ok (.iinc 7 1, 3) := dk_132 7 1 (dk_at dksX1_weightIn_3 0 rfl rfl)
theorem dX1_weightIn_72 : decode cX1_weightIn 72 = .ok (.goto (-19), 3) := dk_167 255 237 (dk_at dksX1_weightIn_3 3 rfl rfl)
theorem dX1_weightIn_75 : decode cX1_weightIn 75 = .ok (.aload 6, 2) := dk_25 6 (dk_at dksX1_weightIn_3 6 rfl rfl)
theorem dX1_weightIn_77 : decode cX1_weightIn 77 = .ok (.iload_n 1, 1) := dk_27 (dk_at dksX1_weightIn_3 8 rfl rfl)
theorem dX1_weightIn_78 : decode cX1_weightIn 78 = .ok (.invokevirtual 244, 3) := dk_182 0 244 (dk_at dksX1_weightIn_3 9 rfl rfl)
theorem dX1_weightIn_81 : decode cX1_weightIn 81 = .ok (.getfield 184, 3) := dk_180 0 184 (dk_at dksX1_weightIn_3 12 rfl rfl)
theorem dX1_weightIn_84 : decode cX1_weightIn 84 = .ok (.ireturn, 1) := dk_172 (dk_at dksX1_weightIn_3 15 rfl rfl)
abbrev cX1_rightBy : ByteArray := prog_1_method_56_code
def yX1_rightBy : MethodName := ⟨RX1, "rightBy", "(I)I"⟩
def dkwX1_rightBy_0 : List UInt8 := [27, 133, 9, 3, 184, 1, 151, 133, 184, 0, 105, 184, 0, 237, 42, 27, 182, 1, 154, 172]
abbrev dktX1_rightBy_0 : List UInt8 := dkwX1_rightBy_0 ++ []
theorem dksX1_rightBy_0 : cX1_rightBy.data.toList.drop 0 = dktX1_rightBy_0 := by decide +kernel
theorem dX1_rightBy_0 : decode cX1_rightBy 0 = .ok (.iload_n 1, 1) := dk_27 (dk_at dksX1_rightBy_0 0 rfl rfl)
theorem dX1_rightBy_1 : decode cX1_rightBy 1 = .ok (.i2l, 1) := dk_133 (dk_at dksX1_rightBy_0 1 rfl rfl)
theorem dX1_rightBy_2 : decode cX1_rightBy 2 = .ok (.lconst 0, 1) := dk_9 (dk_at dksX1_rightBy_0 2 rfl rfl)
theorem dX1_rightBy_3 : decode cX1_rightBy 3 = .ok (.iconst 0, 1) := dk_3 (dk_at dksX1_rightBy_0 3 rfl rfl)
theorem dX1_rightBy_4 : decode cX1_rightBy 4 = .ok (.invokestatic 407, 3) := dk_184 1 151 (dk_at dksX1_rightBy_0 4 rfl rfl)
theorem dX1_rightBy_7 : decode cX1_rightBy 7 = .ok (.i2l, 1) := dk_133 (dk_at dksX1_rightBy_0 7 rfl rfl)
theorem dX1_rightBy_8 : decode cX1_rightBy 8 = .ok (.invokestatic 105, 3) := dk_184 0 105 (dk_at dksX1_rightBy_0 8 rfl rfl)
theorem dX1_rightBy_11 : decode cX1_rightBy 11 = .ok (.invokestatic 237, 3) := dk_184 0 237 (dk_at dksX1_rightBy_0 11 rfl rfl)
theorem dX1_rightBy_14 : decode cX1_rightBy 14 = .ok (.aload_n 0, 1) := dk_42 (dk_at dksX1_rightBy_0 14 rfl rfl)
theorem dX1_rightBy_15 : decode cX1_rightBy 15 = .ok (.iload_n 1, 1) := dk_27 (dk_at dksX1_rightBy_0 15 rfl rfl)
theorem dX1_rightBy_16 : decode cX1_rightBy 16 = .ok (.invokevirtual 410, 3) := dk_182 1 154 (dk_at dksX1_rightBy_0 16 rfl rfl)
theorem dX1_rightBy_19 : decode cX1_rightBy 19 = .ok (.ireturn, 1) := dk_172 (dk_at dksX1_rightBy_0 19 rfl rfl)
abbrev cX1_rightWith : ByteArray := prog_1_method_58_code
def yX1_rightWith : MethodName := ⟨RX1, "rightWith", "(II)I"⟩
def dkwX1_rightWith_1 : List UInt8 := [4, 167, 0, 4, 3, 184, 0, 237, 42, 42, 180, 0, 72, 180, 0, 207, 3, 46, 27, 28, 182, 1, 148, 172]
abbrev dktX1_rightWith_1 : List UInt8 := dkwX1_rightWith_1 ++ []
def dkwX1_rightWith_0 : List UInt8 := [27, 133, 9, 20, 1, 157, 184, 0, 105, 153, 0, 19, 28, 133, 9, 20, 1, 157, 184, 0, 105, 153, 0, 7]
abbrev dktX1_rightWith_0 : List UInt8 := dkwX1_rightWith_0 ++ dktX1_rightWith_1
theorem dksX1_rightWith_0 : cX1_rightWith.data.toList.drop 0 = dktX1_rightWith_0 := by decide +kernel
theorem dksX1_rightWith_1 : cX1_rightWith.data.toList.drop 24 = dktX1_rightWith_1 := dk_seg dksX1_rightWith_0 24 rfl rfl
theorem dX1_rightWith_0 : decode cX1_rightWith 0 = .ok (.iload_n 1, 1) := dk_27 (dk_at dksX1_rightWith_0 0 rfl rfl)
theorem dX1_rightWith_1 : decode cX1_rightWith 1 = .ok (.i2l, 1) := dk_133 (dk_at dksX1_rightWith_0 1 rfl rfl)
theorem dX1_rightWith_2 : decode cX1_rightWith 2 = .ok (.lconst 0, 1) := dk_9 (dk_at dksX1_rightWith_0 2 rfl rfl)
theorem dX1_rightWith_3 : decode cX1_rightWith 3 = .ok (.ldc2_w 413, 3) := dk_20 1 157 (dk_at dksX1_rightWith_0 3 rfl rfl)
theorem dX1_rightWith_6 : decode cX1_rightWith 6 = .ok (.invokestatic 105, 3) := dk_184 0 105 (dk_at dksX1_rightWith_0 6 rfl rfl)
theorem dX1_rightWith_9 : decode cX1_rightWith 9 = .ok (.ifCond .eq 19, 3) := dk_153 0 19 (dk_at dksX1_rightWith_0 9 rfl rfl)
theorem dX1_rightWith_12 : decode cX1_rightWith 12 = .ok (.iload_n 2, 1) := dk_28 (dk_at dksX1_rightWith_0 12 rfl rfl)
theorem dX1_rightWith_13 : decode cX1_rightWith 13 = .ok (.i2l, 1) := dk_133 (dk_at dksX1_rightWith_0 13 rfl rfl)
theorem dX1_rightWith_14 : decode cX1_rightWith 14 = .ok (.lconst 0, 1) := dk_9 (dk_at dksX1_rightWith_0 14 rfl rfl)
theorem dX1_rightWith_15 : decode cX1_rightWith 15 = .ok (.ldc2_w 413, 3) := dk_20 1 157 (dk_at dksX1_rightWith_0 15 rfl rfl)
theorem dX1_rightWith_18 : decode cX1_rightWith 18 = .ok (.invokestatic 105, 3) := dk_184 0 105 (dk_at dksX1_rightWith_0 18 rfl rfl)
theorem dX1_rightWith_21 : decode cX1_rightWith 21 = .ok (.ifCond .eq 7, 3) := dk_153 0 7 (dk_at dksX1_rightWith_0 21 rfl rfl)
theorem dX1_rightWith_24 : decode cX1_rightWith 24 = .ok (.iconst 1, 1) := dk_4 (dk_at dksX1_rightWith_1 0 rfl rfl)
theorem dX1_rightWith_25 : decode cX1_rightWith 25 = .ok (.goto 4, 3) := dk_167 0 4 (dk_at dksX1_rightWith_1 1 rfl rfl)
theorem dX1_rightWith_28 : decode cX1_rightWith 28 = .ok (.iconst 0, 1) := dk_3 (dk_at dksX1_rightWith_1 4 rfl rfl)
theorem dX1_rightWith_29 : decode cX1_rightWith 29 = .ok (.invokestatic 237, 3) := dk_184 0 237 (dk_at dksX1_rightWith_1 5 rfl rfl)
theorem dX1_rightWith_32 : decode cX1_rightWith 32 = .ok (.aload_n 0, 1) := dk_42 (dk_at dksX1_rightWith_1 8 rfl rfl)
theorem dX1_rightWith_33 : decode cX1_rightWith 33 = .ok (.aload_n 0, 1) := dk_42 (dk_at dksX1_rightWith_1 9 rfl rfl)
theorem dX1_rightWith_34 : decode cX1_rightWith 34 = .ok (.getfield 72, 3) := dk_180 0 72 (dk_at dksX1_rightWith_1 10 rfl rfl)
theorem dX1_rightWith_37 : decode cX1_rightWith 37 = .ok (.getfield 207, 3) := dk_180 0 207 (dk_at dksX1_rightWith_1 13 rfl rfl)
theorem dX1_rightWith_40 : decode cX1_rightWith 40 = .ok (.iconst 0, 1) := dk_3 (dk_at dksX1_rightWith_1 16 rfl rfl)
theorem dX1_rightWith_41 : decode cX1_rightWith 41 = .ok (.iaload, 1) := dk_46 (dk_at dksX1_rightWith_1 17 rfl rfl)
theorem dX1_rightWith_42 : decode cX1_rightWith 42 = .ok (.iload_n 1, 1) := dk_27 (dk_at dksX1_rightWith_1 18 rfl rfl)
theorem dX1_rightWith_43 : decode cX1_rightWith 43 = .ok (.iload_n 2, 1) := dk_28 (dk_at dksX1_rightWith_1 19 rfl rfl)
theorem dX1_rightWith_44 : decode cX1_rightWith 44 = .ok (.invokevirtual 404, 3) := dk_182 1 148 (dk_at dksX1_rightWith_1 20 rfl rfl)
theorem dX1_rightWith_47 : decode cX1_rightWith 47 = .ok (.ireturn, 1) := dk_172 (dk_at dksX1_rightWith_1 23 rfl rfl)
abbrev cX1_harmOf : ByteArray := prog_1_method_59_code
def yX1_harmOf : MethodName := ⟨RX1, "harmOf", "(I)I"⟩
def dkwX1_harmOf_1 : List UInt8 := [58, 4, 25, 4, 27, 182, 0, 244, 4, 181, 0, 180, 25, 4, 182, 1, 145, 29, 100, 172]
abbrev dktX1_harmOf_1 : List UInt8 := dkwX1_harmOf_1 ++ []
def dkwX1_harmOf_0 : List UInt8 := [42, 27, 182, 0, 254, 77, 42, 42, 180, 0, 72, 180, 0, 207, 3, 46, 182, 1, 154, 62, 42, 182, 1, 134]
abbrev dktX1_harmOf_0 : List UInt8 := dkwX1_harmOf_0 ++ dktX1_harmOf_1
theorem dksX1_harmOf_0 : cX1_harmOf.data.toList.drop 0 = dktX1_harmOf_0 := by decide +kernel
theorem dksX1_harmOf_1 : cX1_harmOf.data.toList.drop 24 = dktX1_harmOf_1 := dk_seg dksX1_harmOf_0 24 rfl rfl
theorem dX1_harmOf_0 : decode cX1_harmOf 0 = .ok (.aload_n 0, 1) := dk_42 (dk_at dksX1_harmOf_0 0 rfl rfl)
theorem dX1_harmOf_1 : decode cX1_harmOf 1 = .ok (.iload_n 1, 1) := dk_27 (dk_at dksX1_harmOf_0 1 rfl rfl)
theorem dX1_harmOf_2 : decode cX1_harmOf 2 = .ok (.invokevirtual 254, 3) := dk_182 0 254 (dk_at dksX1_harmOf_0 2 rfl rfl)
theorem dX1_harmOf_5 : decode cX1_harmOf 5 = .ok (.astore_n 2, 1) := dk_77 (dk_at dksX1_harmOf_0 5 rfl rfl)
theorem dX1_harmOf_6 : decode cX1_harmOf 6 = .ok (.aload_n 0, 1) := dk_42 (dk_at dksX1_harmOf_0 6 rfl rfl)
theorem dX1_harmOf_7 : decode cX1_harmOf 7 = .ok (.aload_n 0, 1) := dk_42 (dk_at dksX1_harmOf_0 7 rfl rfl)
theorem dX1_harmOf_8 : decode cX1_harmOf 8 = .ok (.getfield 72, 3) := dk_180 0 72 (dk_at dksX1_harmOf_0 8 rfl rfl)
theorem dX1_harmOf_11 : decode cX1_harmOf 11 = .ok (.getfield 207, 3) := dk_180 0 207 (dk_at dksX1_harmOf_0 11 rfl rfl)
theorem dX1_harmOf_14 : decode cX1_harmOf 14 = .ok (.iconst 0, 1) := dk_3 (dk_at dksX1_harmOf_0 14 rfl rfl)
theorem dX1_harmOf_15 : decode cX1_harmOf 15 = .ok (.iaload, 1) := dk_46 (dk_at dksX1_harmOf_0 15 rfl rfl)
theorem dX1_harmOf_16 : decode cX1_harmOf 16 = .ok (.invokevirtual 410, 3) := dk_182 1 154 (dk_at dksX1_harmOf_0 16 rfl rfl)
theorem dX1_harmOf_19 : decode cX1_harmOf 19 = .ok (.istore_n 3, 1) := dk_62 (dk_at dksX1_harmOf_0 19 rfl rfl)
theorem dX1_harmOf_20 : decode cX1_harmOf 20 = .ok (.aload_n 0, 1) := dk_42 (dk_at dksX1_harmOf_0 20 rfl rfl)
theorem dX1_harmOf_21 : decode cX1_harmOf 21 = .ok (.invokevirtual 390, 3) := dk_182 1 134 (dk_at dksX1_harmOf_0 21 rfl rfl)
theorem dX1_harmOf_24 : decode cX1_harmOf 24 = .ok (.astore 4, 2) := dk_58 4 (dk_at dksX1_harmOf_1 0 rfl rfl)
theorem dX1_harmOf_26 : decode cX1_harmOf 26 = .ok (.aload 4, 2) := dk_25 4 (dk_at dksX1_harmOf_1 2 rfl rfl)
theorem dX1_harmOf_28 : decode cX1_harmOf 28 = .ok (.iload_n 1, 1) := dk_27 (dk_at dksX1_harmOf_1 4 rfl rfl)
theorem dX1_harmOf_29 : decode cX1_harmOf 29 = .ok (.invokevirtual 244, 3) := dk_182 0 244 (dk_at dksX1_harmOf_1 5 rfl rfl)
theorem dX1_harmOf_32 : decode cX1_harmOf 32 = .ok (.iconst 1, 1) := dk_4 (dk_at dksX1_harmOf_1 8 rfl rfl)
theorem dX1_harmOf_33 : decode cX1_harmOf 33 = .ok (.putfield 180, 3) := dk_181 0 180 (dk_at dksX1_harmOf_1 9 rfl rfl)
theorem dX1_harmOf_36 : decode cX1_harmOf 36 = .ok (.aload 4, 2) := dk_25 4 (dk_at dksX1_harmOf_1 12 rfl rfl)
theorem dX1_harmOf_38 : decode cX1_harmOf 38 = .ok (.invokevirtual 401, 3) := dk_182 1 145 (dk_at dksX1_harmOf_1 14 rfl rfl)
theorem dX1_harmOf_41 : decode cX1_harmOf 41 = .ok (.iload_n 3, 1) := dk_29 (dk_at dksX1_harmOf_1 17 rfl rfl)
theorem dX1_harmOf_42 : decode cX1_harmOf 42 = .ok (.isub, 1) := dk_100 (dk_at dksX1_harmOf_1 18 rfl rfl)
theorem dX1_harmOf_43 : decode cX1_harmOf 43 = .ok (.ireturn, 1) := dk_172 (dk_at dksX1_harmOf_1 19 rfl rfl)
abbrev cX1_reachOf : ByteArray := prog_1_method_60_code
def yX1_reachOf : MethodName := ⟨RX1, "reachOf", "(I)I"⟩
def dkwX1_reachOf_3 : List UInt8 := [167, 255, 209, 132, 4, 1, 167, 255, 193, 29, 172]
abbrev dktX1_reachOf_3 : List UInt8 := dkwX1_reachOf_3 ++ []
def dkwX1_reachOf_2 : List UInt8 := [21, 5, 27, 182, 1, 159, 159, 0, 7, 4, 167, 0, 4, 3, 184, 0, 191, 96, 62, 132, 5, 1]
abbrev dktX1_reachOf_2 : List UInt8 := dkwX1_reachOf_2 ++ dktX1_reachOf_3
def dkwX1_reachOf_1 : List UInt8 := [16, 12, 162, 0, 46, 29, 42, 180, 0, 72, 21, 4, 21, 5, 182, 0, 199, 42, 180, 0, 72, 21, 4]
abbrev dktX1_reachOf_1 : List UInt8 := dkwX1_reachOf_1 ++ dktX1_reachOf_2
def dkwX1_reachOf_0 : List UInt8 := [42, 27, 182, 0, 254, 77, 3, 62, 3, 54, 4, 21, 4, 16, 16, 162, 0, 62, 3, 54, 5, 21, 5]
abbrev dktX1_reachOf_0 : List UInt8 := dkwX1_reachOf_0 ++ dktX1_reachOf_1
theorem dksX1_reachOf_0 : cX1_reachOf.data.toList.drop 0 = dktX1_reachOf_0 := by decide +kernel
theorem dksX1_reachOf_1 : cX1_reachOf.data.toList.drop 23 = dktX1_reachOf_1 := dk_seg dksX1_reachOf_0 23 rfl rfl
theorem dksX1_reachOf_2 : cX1_reachOf.data.toList.drop 46 = dktX1_reachOf_2 := dk_seg dksX1_reachOf_1 23 rfl rfl
theorem dksX1_reachOf_3 : cX1_reachOf.data.toList.drop 68 = dktX1_reachOf_3 := dk_seg dksX1_reachOf_2 22 rfl rfl
theorem dX1_reachOf_0 : decode cX1_reachOf 0 = .ok (.aload_n 0, 1) := dk_42 (dk_at dksX1_reachOf_0 0 rfl rfl)
theorem dX1_reachOf_1 : decode cX1_reachOf 1 = .ok (.iload_n 1, 1) := dk_27 (dk_at dksX1_reachOf_0 1 rfl rfl)
theorem dX1_reachOf_2 : decode cX1_reachOf 2 = .ok (.invokevirtual 254, 3) := dk_182 0 254 (dk_at dksX1_reachOf_0 2 rfl rfl)
theorem dX1_reachOf_5 : decode cX1_reachOf 5 = .ok (.astore_n 2, 1) := dk_77 (dk_at dksX1_reachOf_0 5 rfl rfl)
theorem dX1_reachOf_6 : decode cX1_reachOf 6 = .ok (.iconst 0, 1) := dk_3 (dk_at dksX1_reachOf_0 6 rfl rfl)
theorem dX1_reachOf_7 : decode cX1_reachOf 7 = .ok (.istore_n 3, 1) := dk_62 (dk_at dksX1_reachOf_0 7 rfl rfl)
theorem dX1_reachOf_8 : decode cX1_reachOf 8 = .ok (.iconst 0, 1) := dk_3 (dk_at dksX1_reachOf_0 8 rfl rfl)
theorem dX1_reachOf_9 : decode cX1_reachOf 9 = .ok (.istore 4, 2) := dk_54 4 (dk_at dksX1_reachOf_0 9 rfl rfl)
theorem dX1_reachOf_11 : decode cX1_reachOf 11 = .ok (.iload 4, 2) := dk_21 4 (dk_at dksX1_reachOf_0 11 rfl rfl)
theorem dX1_reachOf_13 : decode cX1_reachOf 13 = .ok (.bipush 16, 2) := dk_16 16 (dk_at dksX1_reachOf_0 13 rfl rfl)
theorem dX1_reachOf_15 : decode cX1_reachOf 15 = .ok (.if_icmp .ge 62, 3) := dk_162 0 62 (dk_at dksX1_reachOf_0 15 rfl rfl)
theorem dX1_reachOf_18 : decode cX1_reachOf 18 = .ok (.iconst 0, 1) := dk_3 (dk_at dksX1_reachOf_0 18 rfl rfl)
theorem dX1_reachOf_19 : decode cX1_reachOf 19 = .ok (.istore 5, 2) := dk_54 5 (dk_at dksX1_reachOf_0 19 rfl rfl)
theorem dX1_reachOf_21 : decode cX1_reachOf 21 = .ok (.iload 5, 2) := dk_21 5 (dk_at dksX1_reachOf_0 21 rfl rfl)
theorem dX1_reachOf_23 : decode cX1_reachOf 23 = .ok (.bipush 12, 2) := dk_16 12 (dk_at dksX1_reachOf_1 0 rfl rfl)
theorem dX1_reachOf_25 : decode cX1_reachOf 25 = .ok (.if_icmp .ge 46, 3) := dk_162 0 46 (dk_at dksX1_reachOf_1 2 rfl rfl)
theorem dX1_reachOf_28 : decode cX1_reachOf 28 = .ok (.iload_n 3, 1) := dk_29 (dk_at dksX1_reachOf_1 5 rfl rfl)
theorem dX1_reachOf_29 : decode cX1_reachOf 29 = .ok (.aload_n 0, 1) := dk_42 (dk_at dksX1_reachOf_1 6 rfl rfl)
theorem dX1_reachOf_30 : decode cX1_reachOf 30 = .ok (.getfield 72, 3) := dk_180 0 72 (dk_at dksX1_reachOf_1 7 rfl rfl)
theorem dX1_reachOf_33 : decode cX1_reachOf 33 = .ok (.iload 4, 2) := dk_21 4 (dk_at dksX1_reachOf_1 10 rfl rfl)
theorem dX1_reachOf_35 : decode cX1_reachOf 35 = .ok (.iload 5, 2) := dk_21 5 (dk_at dksX1_reachOf_1 12 rfl rfl)
theorem dX1_reachOf_37 : decode cX1_reachOf 37 = .ok (.invokevirtual 199, 3) := dk_182 0 199 (dk_at dksX1_reachOf_1 14 rfl rfl)
theorem dX1_reachOf_40 : decode cX1_reachOf 40 = .ok (.aload_n 0, 1) := dk_42 (dk_at dksX1_reachOf_1 17 rfl rfl)
theorem dX1_reachOf_41 : decode cX1_reachOf 41 = .ok (.getfield 72, 3) := dk_180 0 72 (dk_at dksX1_reachOf_1 18 rfl rfl)
theorem dX1_reachOf_44 : decode cX1_reachOf 44 = .ok (.iload 4, 2) := dk_21 4 (dk_at dksX1_reachOf_1 21 rfl rfl)
theorem dX1_reachOf_46 : decode cX1_reachOf 46 = .ok (.iload 5, 2) := dk_21 5 (dk_at dksX1_reachOf_2 0 rfl rfl)
theorem dX1_reachOf_48 : decode cX1_reachOf 48 = .ok (.iload_n 1, 1) := dk_27 (dk_at dksX1_reachOf_2 2 rfl rfl)
theorem dX1_reachOf_49 : decode cX1_reachOf 49 = .ok (.invokevirtual 415, 3) := dk_182 1 159 (dk_at dksX1_reachOf_2 3 rfl rfl)
theorem dX1_reachOf_52 : decode cX1_reachOf 52 = .ok (.if_icmp .eq 7, 3) := dk_159 0 7 (dk_at dksX1_reachOf_2 6 rfl rfl)
theorem dX1_reachOf_55 : decode cX1_reachOf 55 = .ok (.iconst 1, 1) := dk_4 (dk_at dksX1_reachOf_2 9 rfl rfl)
theorem dX1_reachOf_56 : decode cX1_reachOf 56 = .ok (.goto 4, 3) := dk_167 0 4 (dk_at dksX1_reachOf_2 10 rfl rfl)
theorem dX1_reachOf_59 : decode cX1_reachOf 59 = .ok (.iconst 0, 1) := dk_3 (dk_at dksX1_reachOf_2 13 rfl rfl)
theorem dX1_reachOf_60 : decode cX1_reachOf 60 = .ok (.invokestatic 191, 3) := dk_184 0 191 (dk_at dksX1_reachOf_2 14 rfl rfl)
theorem dX1_reachOf_63 : decode cX1_reachOf 63 = .ok (.iadd, 1) := dk_96 (dk_at dksX1_reachOf_2 17 rfl rfl)
theorem dX1_reachOf_64 : decode cX1_reachOf 64 = .ok (.istore_n 3, 1) := dk_62 (dk_at dksX1_reachOf_2 18 rfl rfl)
theorem dX1_reachOf_65 : decode cX1_reachOf 65 = .ok (.iinc 5 1, 3) := dk_132 5 1 (dk_at dksX1_reachOf_2 19 rfl rfl)
theorem dX1_reachOf_68 : decode cX1_reachOf 68 = .ok (.goto (-47), 3) := dk_167 255 209 (dk_at dksX1_reachOf_3 0 rfl rfl)
theorem dX1_reachOf_71 : decode cX1_reachOf 71 = .ok (.iinc 4 1, 3) := dk_132 4 1 (dk_at dksX1_reachOf_3 3 rfl rfl)
theorem dX1_reachOf_74 : decode cX1_reachOf 74 = .ok (.goto (-63), 3) := dk_167 255 193 (dk_at dksX1_reachOf_3 6 rfl rfl)
theorem dX1_reachOf_77 : decode cX1_reachOf 77 = .ok (.iload_n 3, 1) := dk_29 (dk_at dksX1_reachOf_3 9 rfl rfl)
theorem dX1_reachOf_78 : decode cX1_reachOf 78 = .ok (.ireturn, 1) := dk_172 (dk_at dksX1_reachOf_3 10 rfl rfl)
abbrev cX1_day : ByteArray := prog_1_method_70_code
def yX1_day : MethodName := ⟨RX1, "day", "(II)I"⟩
def dkwX1_day_1 : List UInt8 := [167, 0, 4, 3, 184, 1, 189, 42, 182, 0, 151, 27, 28, 182, 1, 137, 172]
abbrev dktX1_day_1 : List UInt8 := dkwX1_day_1 ++ []
def dkwX1_day_0 : List UInt8 := [27, 184, 1, 131, 28, 184, 1, 48, 42, 180, 0, 72, 180, 0, 217, 17, 2, 208, 162, 0, 7, 4]
abbrev dktX1_day_0 : List UInt8 := dkwX1_day_0 ++ dktX1_day_1
theorem dksX1_day_0 : cX1_day.data.toList.drop 0 = dktX1_day_0 := by decide +kernel
theorem dksX1_day_1 : cX1_day.data.toList.drop 22 = dktX1_day_1 := dk_seg dksX1_day_0 22 rfl rfl
theorem dX1_day_0 : decode cX1_day 0 = .ok (.iload_n 1, 1) := dk_27 (dk_at dksX1_day_0 0 rfl rfl)
theorem dX1_day_1 : decode cX1_day 1 = .ok (.invokestatic 387, 3) := dk_184 1 131 (dk_at dksX1_day_0 1 rfl rfl)
theorem dX1_day_4 : decode cX1_day 4 = .ok (.iload_n 2, 1) := dk_28 (dk_at dksX1_day_0 4 rfl rfl)
theorem dX1_day_5 : decode cX1_day 5 = .ok (.invokestatic 304, 3) := dk_184 1 48 (dk_at dksX1_day_0 5 rfl rfl)
theorem dX1_day_8 : decode cX1_day 8 = .ok (.aload_n 0, 1) := dk_42 (dk_at dksX1_day_0 8 rfl rfl)
theorem dX1_day_9 : decode cX1_day 9 = .ok (.getfield 72, 3) := dk_180 0 72 (dk_at dksX1_day_0 9 rfl rfl)
theorem dX1_day_12 : decode cX1_day 12 = .ok (.getfield 217, 3) := dk_180 0 217 (dk_at dksX1_day_0 12 rfl rfl)
theorem dX1_day_15 : decode cX1_day 15 = .ok (.sipush 720, 3) := dk_17 2 208 (dk_at dksX1_day_0 15 rfl rfl)
theorem dX1_day_18 : decode cX1_day 18 = .ok (.if_icmp .ge 7, 3) := dk_162 0 7 (dk_at dksX1_day_0 18 rfl rfl)
theorem dX1_day_21 : decode cX1_day 21 = .ok (.iconst 1, 1) := dk_4 (dk_at dksX1_day_0 21 rfl rfl)
theorem dX1_day_22 : decode cX1_day 22 = .ok (.goto 4, 3) := dk_167 0 4 (dk_at dksX1_day_1 0 rfl rfl)
theorem dX1_day_25 : decode cX1_day 25 = .ok (.iconst 0, 1) := dk_3 (dk_at dksX1_day_1 3 rfl rfl)
theorem dX1_day_26 : decode cX1_day 26 = .ok (.invokestatic 445, 3) := dk_184 1 189 (dk_at dksX1_day_1 4 rfl rfl)
theorem dX1_day_29 : decode cX1_day 29 = .ok (.aload_n 0, 1) := dk_42 (dk_at dksX1_day_1 7 rfl rfl)
theorem dX1_day_30 : decode cX1_day 30 = .ok (.invokevirtual 151, 3) := dk_182 0 151 (dk_at dksX1_day_1 8 rfl rfl)
theorem dX1_day_33 : decode cX1_day 33 = .ok (.iload_n 1, 1) := dk_27 (dk_at dksX1_day_1 11 rfl rfl)
theorem dX1_day_34 : decode cX1_day 34 = .ok (.iload_n 2, 1) := dk_28 (dk_at dksX1_day_1 12 rfl rfl)
theorem dX1_day_35 : decode cX1_day 35 = .ok (.invokevirtual 393, 3) := dk_182 1 137 (dk_at dksX1_day_1 13 rfl rfl)
theorem dX1_day_38 : decode cX1_day 38 = .ok (.ireturn, 1) := dk_172 (dk_at dksX1_day_1 16 rfl rfl)
abbrev cX1_checkState : ByteArray := prog_1_method_4_code
def yX1_checkState : MethodName := ⟨RX1, "checkState", "(Z)V"⟩
def dkwX1_checkState_0 : List UInt8 := [26, 154, 0, 11, 187, 0, 10, 89, 183, 0, 12, 191, 177]
abbrev dktX1_checkState_0 : List UInt8 := dkwX1_checkState_0 ++ []
theorem dksX1_checkState_0 : cX1_checkState.data.toList.drop 0 = dktX1_checkState_0 := by decide +kernel
theorem dX1_checkState_0 : decode cX1_checkState 0 = .ok (.iload_n 0, 1) := dk_26 (dk_at dksX1_checkState_0 0 rfl rfl)
theorem dX1_checkState_1 : decode cX1_checkState 1 = .ok (.ifCond .ne 11, 3) := dk_154 0 11 (dk_at dksX1_checkState_0 1 rfl rfl)
theorem dX1_checkState_4 : decode cX1_checkState 4 = .ok (.new 10, 3) := dk_187 0 10 (dk_at dksX1_checkState_0 4 rfl rfl)
theorem dX1_checkState_7 : decode cX1_checkState 7 = .ok (.dup, 1) := dk_89 (dk_at dksX1_checkState_0 7 rfl rfl)
theorem dX1_checkState_8 : decode cX1_checkState 8 = .ok (.invokespecial 12, 3) := dk_183 0 12 (dk_at dksX1_checkState_0 8 rfl rfl)
theorem dX1_checkState_11 : decode cX1_checkState 11 = .ok (.athrow, 1) := dk_191 (dk_at dksX1_checkState_0 11 rfl rfl)
theorem dX1_checkState_12 : decode cX1_checkState 12 = .ok (.return_, 1) := dk_177 (dk_at dksX1_checkState_0 12 rfl rfl)
abbrev cX1_proverbNew : ByteArray := prog_1_method_71_code
def yX1_proverbNew : MethodName := ⟨RX1, "proverbNew", "(IIIIII)I"⟩
def dkwX1_proverbNew_4 : List UInt8 := [25, 7, 184, 1, 196, 172]
abbrev dktX1_proverbNew_4 : List UInt8 := dkwX1_proverbNew_4 ++ []
def dkwX1_proverbNew_3 : List UInt8 := [89, 8, 21, 6, 79, 58, 7, 42, 180, 0, 72, 25, 7, 184, 1, 192, 184, 1, 189, 42, 182, 0, 151]
abbrev dktX1_proverbNew_3 : List UInt8 := dkwX1_proverbNew_3 ++ dktX1_proverbNew_4
def dkwX1_proverbNew_2 : List UInt8 := [188, 10, 89, 3, 27, 79, 89, 4, 28, 79, 89, 5, 29, 79, 89, 6, 21, 4, 79, 89, 7, 21, 5, 79]
abbrev dktX1_proverbNew_2 : List UInt8 := dkwX1_proverbNew_2 ++ dktX1_proverbNew_3
def dkwX1_proverbNew_1 : List UInt8 := [21, 6, 133, 10, 20, 1, 165, 184, 0, 105, 153, 0, 7, 4, 167, 0, 4, 3, 184, 0, 237, 16, 6]
abbrev dktX1_proverbNew_1 : List UInt8 := dkwX1_proverbNew_1 ++ dktX1_proverbNew_2
def dkwX1_proverbNew_0 : List UInt8 := [27, 29, 184, 1, 30, 28, 21, 4, 184, 1, 30, 21, 5, 133, 9, 20, 0, 252, 184, 0, 105, 153, 0, 20]
abbrev dktX1_proverbNew_0 : List UInt8 := dkwX1_proverbNew_0 ++ dktX1_proverbNew_1
theorem dksX1_proverbNew_0 : cX1_proverbNew.data.toList.drop 0 = dktX1_proverbNew_0 := by decide +kernel
theorem dksX1_proverbNew_1 : cX1_proverbNew.data.toList.drop 24 = dktX1_proverbNew_1 := dk_seg dksX1_proverbNew_0 24 rfl rfl
theorem dksX1_proverbNew_2 : cX1_proverbNew.data.toList.drop 47 = dktX1_proverbNew_2 := dk_seg dksX1_proverbNew_1 23 rfl rfl
theorem dksX1_proverbNew_3 : cX1_proverbNew.data.toList.drop 71 = dktX1_proverbNew_3 := dk_seg dksX1_proverbNew_2 24 rfl rfl
theorem dksX1_proverbNew_4 : cX1_proverbNew.data.toList.drop 94 = dktX1_proverbNew_4 := dk_seg dksX1_proverbNew_3 23 rfl rfl
theorem dX1_proverbNew_0 : decode cX1_proverbNew 0 = .ok (.iload_n 1, 1) := dk_27 (dk_at dksX1_proverbNew_0 0 rfl rfl)
theorem dX1_proverbNew_1 : decode cX1_proverbNew 1 = .ok (.iload_n 3, 1) := dk_29 (dk_at dksX1_proverbNew_0 1 rfl rfl)
theorem dX1_proverbNew_2 : decode cX1_proverbNew 2 = .ok (.invokestatic 286, 3) := dk_184 1 30 (dk_at dksX1_proverbNew_0 2 rfl rfl)
theorem dX1_proverbNew_5 : decode cX1_proverbNew 5 = .ok (.iload_n 2, 1) := dk_28 (dk_at dksX1_proverbNew_0 5 rfl rfl)
theorem dX1_proverbNew_6 : decode cX1_proverbNew 6 = .ok (.iload 4, 2) := dk_21 4 (dk_at dksX1_proverbNew_0 6 rfl rfl)
theorem dX1_proverbNew_8 : decode cX1_proverbNew 8 = .ok (.invokestatic 286, 3) := dk_184 1 30 (dk_at dksX1_proverbNew_0 8 rfl rfl)
theorem dX1_proverbNew_11 : decode cX1_proverbNew 11 = .ok (.iload 5, 2) := dk_21 5 (dk_at dksX1_proverbNew_0 11 rfl rfl)
theorem dX1_proverbNew_13 : decode cX1_proverbNew 13 = .ok (.i2l, 1) := dk_133 (dk_at dksX1_proverbNew_0 13 rfl rfl)
theorem dX1_proverbNew_14 : decode cX1_proverbNew 14 = .ok (.lconst 0, 1) := dk_9 (dk_at dksX1_proverbNew_0 14 rfl rfl)
theorem dX1_proverbNew_15 : decode cX1_proverbNew 15 = .ok (.ldc2_w 252, 3) := dk_20 0 252 (dk_at dksX1_proverbNew_0 15 rfl rfl)
theorem dX1_proverbNew_18 : decode cX1_proverbNew 18 = .ok (.invokestatic 105, 3) := dk_184 0 105 (dk_at dksX1_proverbNew_0 18 rfl rfl)
theorem dX1_proverbNew_21 : decode cX1_proverbNew 21 = .ok (.ifCond .eq 20, 3) := dk_153 0 20 (dk_at dksX1_proverbNew_0 21 rfl rfl)
theorem dX1_proverbNew_24 : decode cX1_proverbNew 24 = .ok (.iload 6, 2) := dk_21 6 (dk_at dksX1_proverbNew_1 0 rfl rfl)
theorem dX1_proverbNew_26 : decode cX1_proverbNew 26 = .ok (.i2l, 1) := dk_133 (dk_at dksX1_proverbNew_1 2 rfl rfl)
theorem dX1_proverbNew_27 : decode cX1_proverbNew 27 = .ok (.lconst 1, 1) := dk_10 (dk_at dksX1_proverbNew_1 3 rfl rfl)
theorem dX1_proverbNew_28 : decode cX1_proverbNew 28 = .ok (.ldc2_w 421, 3) := dk_20 1 165 (dk_at dksX1_proverbNew_1 4 rfl rfl)
theorem dX1_proverbNew_31 : decode cX1_proverbNew 31 = .ok (.invokestatic 105, 3) := dk_184 0 105 (dk_at dksX1_proverbNew_1 7 rfl rfl)
theorem dX1_proverbNew_34 : decode cX1_proverbNew 34 = .ok (.ifCond .eq 7, 3) := dk_153 0 7 (dk_at dksX1_proverbNew_1 10 rfl rfl)
theorem dX1_proverbNew_37 : decode cX1_proverbNew 37 = .ok (.iconst 1, 1) := dk_4 (dk_at dksX1_proverbNew_1 13 rfl rfl)
theorem dX1_proverbNew_38 : decode cX1_proverbNew 38 = .ok (.goto 4, 3) := dk_167 0 4 (dk_at dksX1_proverbNew_1 14 rfl rfl)
theorem dX1_proverbNew_41 : decode cX1_proverbNew 41 = .ok (.iconst 0, 1) := dk_3 (dk_at dksX1_proverbNew_1 17 rfl rfl)
theorem dX1_proverbNew_42 : decode cX1_proverbNew 42 = .ok (.invokestatic 237, 3) := dk_184 0 237 (dk_at dksX1_proverbNew_1 18 rfl rfl)
theorem dX1_proverbNew_45 : decode cX1_proverbNew 45 = .ok (.bipush 6, 2) := dk_16 6 (dk_at dksX1_proverbNew_1 21 rfl rfl)
theorem dX1_proverbNew_47 : decode cX1_proverbNew 47 = .ok (.newarray .int, 2) := dk_188_10 (dk_at dksX1_proverbNew_2 0 rfl rfl)
theorem dX1_proverbNew_49 : decode cX1_proverbNew 49 = .ok (.dup, 1) := dk_89 (dk_at dksX1_proverbNew_2 2 rfl rfl)
theorem dX1_proverbNew_50 : decode cX1_proverbNew 50 = .ok (.iconst 0, 1) := dk_3 (dk_at dksX1_proverbNew_2 3 rfl rfl)
theorem dX1_proverbNew_51 : decode cX1_proverbNew 51 = .ok (.iload_n 1, 1) := dk_27 (dk_at dksX1_proverbNew_2 4 rfl rfl)
theorem dX1_proverbNew_52 : decode cX1_proverbNew 52 = .ok (.iastore, 1) := dk_79 (dk_at dksX1_proverbNew_2 5 rfl rfl)
theorem dX1_proverbNew_53 : decode cX1_proverbNew 53 = .ok (.dup, 1) := dk_89 (dk_at dksX1_proverbNew_2 6 rfl rfl)
theorem dX1_proverbNew_54 : decode cX1_proverbNew 54 = .ok (.iconst 1, 1) := dk_4 (dk_at dksX1_proverbNew_2 7 rfl rfl)
theorem dX1_proverbNew_55 : decode cX1_proverbNew 55 = .ok (.iload_n 2, 1) := dk_28 (dk_at dksX1_proverbNew_2 8 rfl rfl)
theorem dX1_proverbNew_56 : decode cX1_proverbNew 56 = .ok (.iastore, 1) := dk_79 (dk_at dksX1_proverbNew_2 9 rfl rfl)
theorem dX1_proverbNew_57 : decode cX1_proverbNew 57 = .ok (.dup, 1) := dk_89 (dk_at dksX1_proverbNew_2 10 rfl rfl)
theorem dX1_proverbNew_58 : decode cX1_proverbNew 58 = .ok (.iconst 2, 1) := dk_5 (dk_at dksX1_proverbNew_2 11 rfl rfl)
theorem dX1_proverbNew_59 : decode cX1_proverbNew 59 = .ok (.iload_n 3, 1) := dk_29 (dk_at dksX1_proverbNew_2 12 rfl rfl)
theorem dX1_proverbNew_60 : decode cX1_proverbNew 60 = .ok (.iastore, 1) := dk_79 (dk_at dksX1_proverbNew_2 13 rfl rfl)
theorem dX1_proverbNew_61 : decode cX1_proverbNew 61 = .ok (.dup, 1) := dk_89 (dk_at dksX1_proverbNew_2 14 rfl rfl)
theorem dX1_proverbNew_62 : decode cX1_proverbNew 62 = .ok (.iconst 3, 1) := dk_6 (dk_at dksX1_proverbNew_2 15 rfl rfl)
theorem dX1_proverbNew_63 : decode cX1_proverbNew 63 = .ok (.iload 4, 2) := dk_21 4 (dk_at dksX1_proverbNew_2 16 rfl rfl)
theorem dX1_proverbNew_65 : decode cX1_proverbNew 65 = .ok (.iastore, 1) := dk_79 (dk_at dksX1_proverbNew_2 18 rfl rfl)
theorem dX1_proverbNew_66 : decode cX1_proverbNew 66 = .ok (.dup, 1) := dk_89 (dk_at dksX1_proverbNew_2 19 rfl rfl)
theorem dX1_proverbNew_67 : decode cX1_proverbNew 67 = .ok (.iconst 4, 1) := dk_7 (dk_at dksX1_proverbNew_2 20 rfl rfl)
theorem dX1_proverbNew_68 : decode cX1_proverbNew 68 = .ok (.iload 5, 2) := dk_21 5 (dk_at dksX1_proverbNew_2 21 rfl rfl)
theorem dX1_proverbNew_70 : decode cX1_proverbNew 70 = .ok (.iastore, 1) := dk_79 (dk_at dksX1_proverbNew_2 23 rfl rfl)
theorem dX1_proverbNew_71 : decode cX1_proverbNew 71 = .ok (.dup, 1) := dk_89 (dk_at dksX1_proverbNew_3 0 rfl rfl)
theorem dX1_proverbNew_72 : decode cX1_proverbNew 72 = .ok (.iconst 5, 1) := dk_8 (dk_at dksX1_proverbNew_3 1 rfl rfl)
theorem dX1_proverbNew_73 : decode cX1_proverbNew 73 = .ok (.iload 6, 2) := dk_21 6 (dk_at dksX1_proverbNew_3 2 rfl rfl)
theorem dX1_proverbNew_75 : decode cX1_proverbNew 75 = .ok (.iastore, 1) := dk_79 (dk_at dksX1_proverbNew_3 4 rfl rfl)
theorem dX1_proverbNew_76 : decode cX1_proverbNew 76 = .ok (.astore 7, 2) := dk_58 7 (dk_at dksX1_proverbNew_3 5 rfl rfl)
theorem dX1_proverbNew_78 : decode cX1_proverbNew 78 = .ok (.aload_n 0, 1) := dk_42 (dk_at dksX1_proverbNew_3 7 rfl rfl)
theorem dX1_proverbNew_79 : decode cX1_proverbNew 79 = .ok (.getfield 72, 3) := dk_180 0 72 (dk_at dksX1_proverbNew_3 8 rfl rfl)
theorem dX1_proverbNew_82 : decode cX1_proverbNew 82 = .ok (.aload 7, 2) := dk_25 7 (dk_at dksX1_proverbNew_3 11 rfl rfl)
theorem dX1_proverbNew_84 : decode cX1_proverbNew 84 = .ok (.invokestatic 448, 3) := dk_184 1 192 (dk_at dksX1_proverbNew_3 13 rfl rfl)
theorem dX1_proverbNew_87 : decode cX1_proverbNew 87 = .ok (.invokestatic 445, 3) := dk_184 1 189 (dk_at dksX1_proverbNew_3 16 rfl rfl)
theorem dX1_proverbNew_90 : decode cX1_proverbNew 90 = .ok (.aload_n 0, 1) := dk_42 (dk_at dksX1_proverbNew_3 19 rfl rfl)
theorem dX1_proverbNew_91 : decode cX1_proverbNew 91 = .ok (.invokevirtual 151, 3) := dk_182 0 151 (dk_at dksX1_proverbNew_3 20 rfl rfl)
theorem dX1_proverbNew_94 : decode cX1_proverbNew 94 = .ok (.aload 7, 2) := dk_25 7 (dk_at dksX1_proverbNew_4 0 rfl rfl)
theorem dX1_proverbNew_96 : decode cX1_proverbNew 96 = .ok (.invokestatic 452, 3) := dk_184 1 196 (dk_at dksX1_proverbNew_4 2 rfl rfl)
theorem dX1_proverbNew_99 : decode cX1_proverbNew 99 = .ok (.ireturn, 1) := dk_172 (dk_at dksX1_proverbNew_4 5 rfl rfl)
abbrev cX1_forget : ByteArray := prog_1_method_72_code
def yX1_forget : MethodName := ⟨RX1, "forget", "(I)I"⟩
def dkwX1_forget_1 : List UInt8 := [182, 1, 199, 172]
abbrev dktX1_forget_1 : List UInt8 := dkwX1_forget_1 ++ []
def dkwX1_forget_0 : List UInt8 := [42, 27, 182, 0, 254, 180, 0, 180, 154, 0, 7, 4, 167, 0, 4, 3, 184, 1, 189, 42, 182, 0, 151, 27]
abbrev dktX1_forget_0 : List UInt8 := dkwX1_forget_0 ++ dktX1_forget_1
theorem dksX1_forget_0 : cX1_forget.data.toList.drop 0 = dktX1_forget_0 := by decide +kernel
theorem dksX1_forget_1 : cX1_forget.data.toList.drop 24 = dktX1_forget_1 := dk_seg dksX1_forget_0 24 rfl rfl
theorem dX1_forget_0 : decode cX1_forget 0 = .ok (.aload_n 0, 1) := dk_42 (dk_at dksX1_forget_0 0 rfl rfl)
theorem dX1_forget_1 : decode cX1_forget 1 = .ok (.iload_n 1, 1) := dk_27 (dk_at dksX1_forget_0 1 rfl rfl)
theorem dX1_forget_2 : decode cX1_forget 2 = .ok (.invokevirtual 254, 3) := dk_182 0 254 (dk_at dksX1_forget_0 2 rfl rfl)
theorem dX1_forget_5 : decode cX1_forget 5 = .ok (.getfield 180, 3) := dk_180 0 180 (dk_at dksX1_forget_0 5 rfl rfl)
theorem dX1_forget_8 : decode cX1_forget 8 = .ok (.ifCond .ne 7, 3) := dk_154 0 7 (dk_at dksX1_forget_0 8 rfl rfl)
theorem dX1_forget_11 : decode cX1_forget 11 = .ok (.iconst 1, 1) := dk_4 (dk_at dksX1_forget_0 11 rfl rfl)
theorem dX1_forget_12 : decode cX1_forget 12 = .ok (.goto 4, 3) := dk_167 0 4 (dk_at dksX1_forget_0 12 rfl rfl)
theorem dX1_forget_15 : decode cX1_forget 15 = .ok (.iconst 0, 1) := dk_3 (dk_at dksX1_forget_0 15 rfl rfl)
theorem dX1_forget_16 : decode cX1_forget 16 = .ok (.invokestatic 445, 3) := dk_184 1 189 (dk_at dksX1_forget_0 16 rfl rfl)
theorem dX1_forget_19 : decode cX1_forget 19 = .ok (.aload_n 0, 1) := dk_42 (dk_at dksX1_forget_0 19 rfl rfl)
theorem dX1_forget_20 : decode cX1_forget 20 = .ok (.invokevirtual 151, 3) := dk_182 0 151 (dk_at dksX1_forget_0 20 rfl rfl)
theorem dX1_forget_23 : decode cX1_forget 23 = .ok (.iload_n 1, 1) := dk_27 (dk_at dksX1_forget_0 23 rfl rfl)
theorem dX1_forget_24 : decode cX1_forget 24 = .ok (.invokevirtual 455, 3) := dk_182 1 199 (dk_at dksX1_forget_1 0 rfl rfl)
theorem dX1_forget_27 : decode cX1_forget 27 = .ok (.ireturn, 1) := dk_172 (dk_at dksX1_forget_1 3 rfl rfl)
abbrev cX1_weigh : ByteArray := prog_1_method_73_code
def yX1_weigh : MethodName := ⟨RX1, "weigh", "(II)I"⟩
def dkwX1_weigh_1 : List UInt8 := [182, 1, 202, 172]
abbrev dktX1_weigh_1 : List UInt8 := dkwX1_weigh_1 ++ []
def dkwX1_weigh_0 : List UInt8 := [42, 27, 182, 0, 254, 78, 28, 133, 10, 20, 1, 165, 184, 0, 105, 184, 0, 237, 42, 182, 0, 151, 27, 28]
abbrev dktX1_weigh_0 : List UInt8 := dkwX1_weigh_0 ++ dktX1_weigh_1
theorem dksX1_weigh_0 : cX1_weigh.data.toList.drop 0 = dktX1_weigh_0 := by decide +kernel
theorem dksX1_weigh_1 : cX1_weigh.data.toList.drop 24 = dktX1_weigh_1 := dk_seg dksX1_weigh_0 24 rfl rfl
theorem dX1_weigh_0 : decode cX1_weigh 0 = .ok (.aload_n 0, 1) := dk_42 (dk_at dksX1_weigh_0 0 rfl rfl)
theorem dX1_weigh_1 : decode cX1_weigh 1 = .ok (.iload_n 1, 1) := dk_27 (dk_at dksX1_weigh_0 1 rfl rfl)
theorem dX1_weigh_2 : decode cX1_weigh 2 = .ok (.invokevirtual 254, 3) := dk_182 0 254 (dk_at dksX1_weigh_0 2 rfl rfl)
theorem dX1_weigh_5 : decode cX1_weigh 5 = .ok (.astore_n 3, 1) := dk_78 (dk_at dksX1_weigh_0 5 rfl rfl)
theorem dX1_weigh_6 : decode cX1_weigh 6 = .ok (.iload_n 2, 1) := dk_28 (dk_at dksX1_weigh_0 6 rfl rfl)
theorem dX1_weigh_7 : decode cX1_weigh 7 = .ok (.i2l, 1) := dk_133 (dk_at dksX1_weigh_0 7 rfl rfl)
theorem dX1_weigh_8 : decode cX1_weigh 8 = .ok (.lconst 1, 1) := dk_10 (dk_at dksX1_weigh_0 8 rfl rfl)
theorem dX1_weigh_9 : decode cX1_weigh 9 = .ok (.ldc2_w 421, 3) := dk_20 1 165 (dk_at dksX1_weigh_0 9 rfl rfl)
theorem dX1_weigh_12 : decode cX1_weigh 12 = .ok (.invokestatic 105, 3) := dk_184 0 105 (dk_at dksX1_weigh_0 12 rfl rfl)
theorem dX1_weigh_15 : decode cX1_weigh 15 = .ok (.invokestatic 237, 3) := dk_184 0 237 (dk_at dksX1_weigh_0 15 rfl rfl)
theorem dX1_weigh_18 : decode cX1_weigh 18 = .ok (.aload_n 0, 1) := dk_42 (dk_at dksX1_weigh_0 18 rfl rfl)
theorem dX1_weigh_19 : decode cX1_weigh 19 = .ok (.invokevirtual 151, 3) := dk_182 0 151 (dk_at dksX1_weigh_0 19 rfl rfl)
theorem dX1_weigh_22 : decode cX1_weigh 22 = .ok (.iload_n 1, 1) := dk_27 (dk_at dksX1_weigh_0 22 rfl rfl)
theorem dX1_weigh_23 : decode cX1_weigh 23 = .ok (.iload_n 2, 1) := dk_28 (dk_at dksX1_weigh_0 23 rfl rfl)
theorem dX1_weigh_24 : decode cX1_weigh 24 = .ok (.invokevirtual 458, 3) := dk_182 1 202 (dk_at dksX1_weigh_1 0 rfl rfl)
theorem dX1_weigh_27 : decode cX1_weigh 27 = .ok (.ireturn, 1) := dk_172 (dk_at dksX1_weigh_1 3 rfl rfl)
abbrev cX1_set : ByteArray := prog_1_method_74_code
def yX1_set : MethodName := ⟨RX1, "set", "(II)I"⟩
def dkwX1_set_1 : List UInt8 := [184, 1, 151, 133, 184, 0, 105, 184, 0, 237, 42, 182, 0, 151, 29, 28, 182, 1, 142, 172]
abbrev dktX1_set_1 : List UInt8 := dkwX1_set_1 ++ []
def dkwX1_set_0 : List UInt8 := [27, 133, 20, 0, 203, 20, 0, 205, 184, 0, 105, 184, 0, 237, 27, 8, 100, 62, 28, 133, 9, 29]
abbrev dktX1_set_0 : List UInt8 := dkwX1_set_0 ++ dktX1_set_1
theorem dksX1_set_0 : cX1_set.data.toList.drop 0 = dktX1_set_0 := by decide +kernel
theorem dksX1_set_1 : cX1_set.data.toList.drop 22 = dktX1_set_1 := dk_seg dksX1_set_0 22 rfl rfl
theorem dX1_set_0 : decode cX1_set 0 = .ok (.iload_n 1, 1) := dk_27 (dk_at dksX1_set_0 0 rfl rfl)
theorem dX1_set_1 : decode cX1_set 1 = .ok (.i2l, 1) := dk_133 (dk_at dksX1_set_0 1 rfl rfl)
theorem dX1_set_2 : decode cX1_set 2 = .ok (.ldc2_w 203, 3) := dk_20 0 203 (dk_at dksX1_set_0 2 rfl rfl)
theorem dX1_set_5 : decode cX1_set 5 = .ok (.ldc2_w 205, 3) := dk_20 0 205 (dk_at dksX1_set_0 5 rfl rfl)
theorem dX1_set_8 : decode cX1_set 8 = .ok (.invokestatic 105, 3) := dk_184 0 105 (dk_at dksX1_set_0 8 rfl rfl)
theorem dX1_set_11 : decode cX1_set 11 = .ok (.invokestatic 237, 3) := dk_184 0 237 (dk_at dksX1_set_0 11 rfl rfl)
theorem dX1_set_14 : decode cX1_set 14 = .ok (.iload_n 1, 1) := dk_27 (dk_at dksX1_set_0 14 rfl rfl)
theorem dX1_set_15 : decode cX1_set 15 = .ok (.iconst 5, 1) := dk_8 (dk_at dksX1_set_0 15 rfl rfl)
theorem dX1_set_16 : decode cX1_set 16 = .ok (.isub, 1) := dk_100 (dk_at dksX1_set_0 16 rfl rfl)
theorem dX1_set_17 : decode cX1_set 17 = .ok (.istore_n 3, 1) := dk_62 (dk_at dksX1_set_0 17 rfl rfl)
theorem dX1_set_18 : decode cX1_set 18 = .ok (.iload_n 2, 1) := dk_28 (dk_at dksX1_set_0 18 rfl rfl)
theorem dX1_set_19 : decode cX1_set 19 = .ok (.i2l, 1) := dk_133 (dk_at dksX1_set_0 19 rfl rfl)
theorem dX1_set_20 : decode cX1_set 20 = .ok (.lconst 0, 1) := dk_9 (dk_at dksX1_set_0 20 rfl rfl)
theorem dX1_set_21 : decode cX1_set 21 = .ok (.iload_n 3, 1) := dk_29 (dk_at dksX1_set_0 21 rfl rfl)
theorem dX1_set_22 : decode cX1_set 22 = .ok (.invokestatic 407, 3) := dk_184 1 151 (dk_at dksX1_set_1 0 rfl rfl)
theorem dX1_set_25 : decode cX1_set 25 = .ok (.i2l, 1) := dk_133 (dk_at dksX1_set_1 3 rfl rfl)
theorem dX1_set_26 : decode cX1_set 26 = .ok (.invokestatic 105, 3) := dk_184 0 105 (dk_at dksX1_set_1 4 rfl rfl)
theorem dX1_set_29 : decode cX1_set 29 = .ok (.invokestatic 237, 3) := dk_184 0 237 (dk_at dksX1_set_1 7 rfl rfl)
theorem dX1_set_32 : decode cX1_set 32 = .ok (.aload_n 0, 1) := dk_42 (dk_at dksX1_set_1 10 rfl rfl)
theorem dX1_set_33 : decode cX1_set 33 = .ok (.invokevirtual 151, 3) := dk_182 0 151 (dk_at dksX1_set_1 11 rfl rfl)
theorem dX1_set_36 : decode cX1_set 36 = .ok (.iload_n 3, 1) := dk_29 (dk_at dksX1_set_1 14 rfl rfl)
theorem dX1_set_37 : decode cX1_set 37 = .ok (.iload_n 2, 1) := dk_28 (dk_at dksX1_set_1 15 rfl rfl)
theorem dX1_set_38 : decode cX1_set 38 = .ok (.invokevirtual 398, 3) := dk_182 1 142 (dk_at dksX1_set_1 16 rfl rfl)
theorem dX1_set_41 : decode cX1_set 41 = .ok (.ireturn, 1) := dk_172 (dk_at dksX1_set_1 19 rfl rfl)
abbrev cX1_undo : ByteArray := prog_1_method_75_code
def yX1_undo : MethodName := ⟨RX1, "undo", "()I"⟩
def dkwX1_undo_1 : List UInt8 := [182, 1, 209, 192, 0, 19, 181, 0, 72, 42, 180, 0, 85, 182, 0, 234, 172]
abbrev dktX1_undo_1 : List UInt8 := dkwX1_undo_1 ++ []
def dkwX1_undo_0 : List UInt8 := [42, 180, 0, 85, 182, 1, 205, 154, 0, 7, 4, 167, 0, 4, 3, 184, 1, 206, 42, 42, 180, 0, 85]
abbrev dktX1_undo_0 : List UInt8 := dkwX1_undo_0 ++ dktX1_undo_1
theorem dksX1_undo_0 : cX1_undo.data.toList.drop 0 = dktX1_undo_0 := by decide +kernel
theorem dksX1_undo_1 : cX1_undo.data.toList.drop 23 = dktX1_undo_1 := dk_seg dksX1_undo_0 23 rfl rfl
theorem dX1_undo_0 : decode cX1_undo 0 = .ok (.aload_n 0, 1) := dk_42 (dk_at dksX1_undo_0 0 rfl rfl)
theorem dX1_undo_1 : decode cX1_undo 1 = .ok (.getfield 85, 3) := dk_180 0 85 (dk_at dksX1_undo_0 1 rfl rfl)
theorem dX1_undo_4 : decode cX1_undo 4 = .ok (.invokevirtual 461, 3) := dk_182 1 205 (dk_at dksX1_undo_0 4 rfl rfl)
theorem dX1_undo_7 : decode cX1_undo 7 = .ok (.ifCond .ne 7, 3) := dk_154 0 7 (dk_at dksX1_undo_0 7 rfl rfl)
theorem dX1_undo_10 : decode cX1_undo 10 = .ok (.iconst 1, 1) := dk_4 (dk_at dksX1_undo_0 10 rfl rfl)
theorem dX1_undo_11 : decode cX1_undo 11 = .ok (.goto 4, 3) := dk_167 0 4 (dk_at dksX1_undo_0 11 rfl rfl)
theorem dX1_undo_14 : decode cX1_undo 14 = .ok (.iconst 0, 1) := dk_3 (dk_at dksX1_undo_0 14 rfl rfl)
theorem dX1_undo_15 : decode cX1_undo 15 = .ok (.invokestatic 462, 3) := dk_184 1 206 (dk_at dksX1_undo_0 15 rfl rfl)
theorem dX1_undo_18 : decode cX1_undo 18 = .ok (.aload_n 0, 1) := dk_42 (dk_at dksX1_undo_0 18 rfl rfl)
theorem dX1_undo_19 : decode cX1_undo 19 = .ok (.aload_n 0, 1) := dk_42 (dk_at dksX1_undo_0 19 rfl rfl)
theorem dX1_undo_20 : decode cX1_undo 20 = .ok (.getfield 85, 3) := dk_180 0 85 (dk_at dksX1_undo_0 20 rfl rfl)
theorem dX1_undo_23 : decode cX1_undo 23 = .ok (.invokevirtual 465, 3) := dk_182 1 209 (dk_at dksX1_undo_1 0 rfl rfl)
theorem dX1_undo_26 : decode cX1_undo 26 = .ok (.checkcast 19, 3) := dk_192 0 19 (dk_at dksX1_undo_1 3 rfl rfl)
theorem dX1_undo_29 : decode cX1_undo 29 = .ok (.putfield 72, 3) := dk_181 0 72 (dk_at dksX1_undo_1 6 rfl rfl)
theorem dX1_undo_32 : decode cX1_undo 32 = .ok (.aload_n 0, 1) := dk_42 (dk_at dksX1_undo_1 9 rfl rfl)
theorem dX1_undo_33 : decode cX1_undo 33 = .ok (.getfield 85, 3) := dk_180 0 85 (dk_at dksX1_undo_1 10 rfl rfl)
theorem dX1_undo_36 : decode cX1_undo 36 = .ok (.invokevirtual 234, 3) := dk_182 0 234 (dk_at dksX1_undo_1 13 rfl rfl)
theorem dX1_undo_39 : decode cX1_undo 39 = .ok (.ireturn, 1) := dk_172 (dk_at dksX1_undo_1 16 rfl rfl)
abbrev cX1_printMonth : ByteArray := prog_1_method_76_code
def yX1_printMonth : MethodName := ⟨RX1, "printMonth", "(I)I"⟩
def dkwX1_printMonth_2 : List UInt8 := [16, 48, 29, 96, 146, 182, 1, 215, 87, 132, 2, 1, 167, 255, 214, 42, 180, 0, 92, 182, 1, 219, 172]
abbrev dktX1_printMonth_2 : List UInt8 := dkwX1_printMonth_2 ++ []
def dkwX1_printMonth_1 : List UInt8 := [180, 0, 72, 28, 27, 182, 0, 199, 62, 42, 180, 0, 92, 29, 2, 160, 0, 8, 16, 46, 167, 0, 8]
abbrev dktX1_printMonth_1 : List UInt8 := dkwX1_printMonth_1 ++ dktX1_printMonth_2
def dkwX1_printMonth_0 : List UInt8 := [3, 27, 184, 1, 30, 42, 180, 0, 92, 3, 182, 1, 212, 3, 61, 28, 16, 16, 162, 0, 42, 42]
abbrev dktX1_printMonth_0 : List UInt8 := dkwX1_printMonth_0 ++ dktX1_printMonth_1
theorem dksX1_printMonth_0 : cX1_printMonth.data.toList.drop 0 = dktX1_printMonth_0 := by decide +kernel
theorem dksX1_printMonth_1 : cX1_printMonth.data.toList.drop 22 = dktX1_printMonth_1 := dk_seg dksX1_printMonth_0 22 rfl rfl
theorem dksX1_printMonth_2 : cX1_printMonth.data.toList.drop 45 = dktX1_printMonth_2 := dk_seg dksX1_printMonth_1 23 rfl rfl
theorem dX1_printMonth_0 : decode cX1_printMonth 0 = .ok (.iconst 0, 1) := dk_3 (dk_at dksX1_printMonth_0 0 rfl rfl)
theorem dX1_printMonth_1 : decode cX1_printMonth 1 = .ok (.iload_n 1, 1) := dk_27 (dk_at dksX1_printMonth_0 1 rfl rfl)
theorem dX1_printMonth_2 : decode cX1_printMonth 2 = .ok (.invokestatic 286, 3) := dk_184 1 30 (dk_at dksX1_printMonth_0 2 rfl rfl)
theorem dX1_printMonth_5 : decode cX1_printMonth 5 = .ok (.aload_n 0, 1) := dk_42 (dk_at dksX1_printMonth_0 5 rfl rfl)
theorem dX1_printMonth_6 : decode cX1_printMonth 6 = .ok (.getfield 92, 3) := dk_180 0 92 (dk_at dksX1_printMonth_0 6 rfl rfl)
theorem dX1_printMonth_9 : decode cX1_printMonth 9 = .ok (.iconst 0, 1) := dk_3 (dk_at dksX1_printMonth_0 9 rfl rfl)
theorem dX1_printMonth_10 : decode cX1_printMonth 10 = .ok (.invokevirtual 468, 3) := dk_182 1 212 (dk_at dksX1_printMonth_0 10 rfl rfl)
theorem dX1_printMonth_13 : decode cX1_printMonth 13 = .ok (.iconst 0, 1) := dk_3 (dk_at dksX1_printMonth_0 13 rfl rfl)
theorem dX1_printMonth_14 : decode cX1_printMonth 14 = .ok (.istore_n 2, 1) := dk_61 (dk_at dksX1_printMonth_0 14 rfl rfl)
theorem dX1_printMonth_15 : decode cX1_printMonth 15 = .ok (.iload_n 2, 1) := dk_28 (dk_at dksX1_printMonth_0 15 rfl rfl)
theorem dX1_printMonth_16 : decode cX1_printMonth 16 = .ok (.bipush 16, 2) := dk_16 16 (dk_at dksX1_printMonth_0 16 rfl rfl)
theorem dX1_printMonth_18 : decode cX1_printMonth 18 = .ok (.if_icmp .ge 42, 3) := dk_162 0 42 (dk_at dksX1_printMonth_0 18 rfl rfl)
theorem dX1_printMonth_21 : decode cX1_printMonth 21 = .ok (.aload_n 0, 1) := dk_42 (dk_at dksX1_printMonth_0 21 rfl rfl)
theorem dX1_printMonth_22 : decode cX1_printMonth 22 = .ok (.getfield 72, 3) := dk_180 0 72 (dk_at dksX1_printMonth_1 0 rfl rfl)
theorem dX1_printMonth_25 : decode cX1_printMonth 25 = .ok (.iload_n 2, 1) := dk_28 (dk_at dksX1_printMonth_1 3 rfl rfl)
theorem dX1_printMonth_26 : decode cX1_printMonth 26 = .ok (.iload_n 1, 1) := dk_27 (dk_at dksX1_printMonth_1 4 rfl rfl)
theorem dX1_printMonth_27 : decode cX1_printMonth 27 = .ok (.invokevirtual 199, 3) := dk_182 0 199 (dk_at dksX1_printMonth_1 5 rfl rfl)
theorem dX1_printMonth_30 : decode cX1_printMonth 30 = .ok (.istore_n 3, 1) := dk_62 (dk_at dksX1_printMonth_1 8 rfl rfl)
theorem dX1_printMonth_31 : decode cX1_printMonth 31 = .ok (.aload_n 0, 1) := dk_42 (dk_at dksX1_printMonth_1 9 rfl rfl)
theorem dX1_printMonth_32 : decode cX1_printMonth 32 = .ok (.getfield 92, 3) := dk_180 0 92 (dk_at dksX1_printMonth_1 10 rfl rfl)
theorem dX1_printMonth_35 : decode cX1_printMonth 35 = .ok (.iload_n 3, 1) := dk_29 (dk_at dksX1_printMonth_1 13 rfl rfl)
theorem dX1_printMonth_36 : decode cX1_printMonth 36 = .ok (.iconst (-1), 1) := dk_2 (dk_at dksX1_printMonth_1 14 rfl rfl)
theorem dX1_printMonth_37 : decode cX1_printMonth 37 = .ok (.if_icmp .ne 8, 3) := dk_160 0 8 (dk_at dksX1_printMonth_1 15 rfl rfl)
theorem dX1_printMonth_40 : decode cX1_printMonth 40 = .ok (.bipush 46, 2) := dk_16 46 (dk_at dksX1_printMonth_1 18 rfl rfl)
theorem dX1_printMonth_42 : decode cX1_printMonth 42 = .ok (.goto 8, 3) := dk_167 0 8 (dk_at dksX1_printMonth_1 20 rfl rfl)
theorem dX1_printMonth_45 : decode cX1_printMonth 45 = .ok (.bipush 48, 2) := dk_16 48 (dk_at dksX1_printMonth_2 0 rfl rfl)
theorem dX1_printMonth_47 : decode cX1_printMonth 47 = .ok (.iload_n 3, 1) := dk_29 (dk_at dksX1_printMonth_2 2 rfl rfl)
theorem dX1_printMonth_48 : decode cX1_printMonth 48 = .ok (.iadd, 1) := dk_96 (dk_at dksX1_printMonth_2 3 rfl rfl)
theorem dX1_printMonth_49 : decode cX1_printMonth 49 = .ok (.i2c, 1) := dk_146 (dk_at dksX1_printMonth_2 4 rfl rfl)
theorem dX1_printMonth_50 : decode cX1_printMonth 50 = .ok (.invokevirtual 471, 3) := dk_182 1 215 (dk_at dksX1_printMonth_2 5 rfl rfl)
theorem dX1_printMonth_53 : decode cX1_printMonth 53 = .ok (.pop, 1) := dk_87 (dk_at dksX1_printMonth_2 8 rfl rfl)
theorem dX1_printMonth_54 : decode cX1_printMonth 54 = .ok (.iinc 2 1, 3) := dk_132 2 1 (dk_at dksX1_printMonth_2 9 rfl rfl)
theorem dX1_printMonth_57 : decode cX1_printMonth 57 = .ok (.goto (-42), 3) := dk_167 255 214 (dk_at dksX1_printMonth_2 12 rfl rfl)
theorem dX1_printMonth_60 : decode cX1_printMonth 60 = .ok (.aload_n 0, 1) := dk_42 (dk_at dksX1_printMonth_2 15 rfl rfl)
theorem dX1_printMonth_61 : decode cX1_printMonth 61 = .ok (.getfield 92, 3) := dk_180 0 92 (dk_at dksX1_printMonth_2 16 rfl rfl)
theorem dX1_printMonth_64 : decode cX1_printMonth 64 = .ok (.invokevirtual 475, 3) := dk_182 1 219 (dk_at dksX1_printMonth_2 19 rfl rfl)
theorem dX1_printMonth_67 : decode cX1_printMonth 67 = .ok (.ireturn, 1) := dk_172 (dk_at dksX1_printMonth_2 22 rfl rfl)
abbrev cX1_printProverb : ByteArray := prog_1_method_77_code
def yX1_printProverb : MethodName := ⟨RX1, "printProverb", "(I)I"⟩
def dkwX1_printProverb_4 : List UInt8 := [180, 0, 180, 153, 0, 13, 42, 180, 0, 92, 16, 120, 182, 1, 215, 87, 42, 180, 0, 92, 182, 1, 219, 172]
abbrev dktX1_printProverb_4 : List UInt8 := dkwX1_printProverb_4 ++ []
def dkwX1_printProverb_3 : List UInt8 := [182, 1, 215, 44, 180, 1, 12, 182, 1, 222, 16, 61, 182, 1, 215, 44, 180, 0, 184, 182, 1, 222, 87, 44]
abbrev dktX1_printProverb_3 : List UInt8 := dkwX1_printProverb_3 ++ dktX1_printProverb_4
def dkwX1_printProverb_2 : List UInt8 := [182, 1, 222, 16, 45, 182, 1, 215, 44, 180, 1, 9, 182, 1, 222, 87, 42, 180, 0, 92, 16, 62]
abbrev dktX1_printProverb_2 : List UInt8 := dkwX1_printProverb_2 ++ dktX1_printProverb_3
def dkwX1_printProverb_1 : List UInt8 := [182, 1, 222, 16, 45, 182, 1, 215, 44, 180, 1, 4, 182, 1, 222, 16, 64, 182, 1, 215, 44, 180, 1, 7]
abbrev dktX1_printProverb_1 : List UInt8 := dkwX1_printProverb_1 ++ dktX1_printProverb_2
def dkwX1_printProverb_0 : List UInt8 := [42, 27, 182, 0, 254, 77, 42, 180, 0, 92, 3, 182, 1, 212, 42, 180, 0, 92, 44, 180, 1, 1]
abbrev dktX1_printProverb_0 : List UInt8 := dkwX1_printProverb_0 ++ dktX1_printProverb_1
theorem dksX1_printProverb_0 : cX1_printProverb.data.toList.drop 0 = dktX1_printProverb_0 := by decide +kernel
theorem dksX1_printProverb_1 : cX1_printProverb.data.toList.drop 22 = dktX1_printProverb_1 := dk_seg dksX1_printProverb_0 22 rfl rfl
theorem dksX1_printProverb_2 : cX1_printProverb.data.toList.drop 46 = dktX1_printProverb_2 := dk_seg dksX1_printProverb_1 24 rfl rfl
theorem dksX1_printProverb_3 : cX1_printProverb.data.toList.drop 68 = dktX1_printProverb_3 := dk_seg dksX1_printProverb_2 22 rfl rfl
theorem dksX1_printProverb_4 : cX1_printProverb.data.toList.drop 92 = dktX1_printProverb_4 := dk_seg dksX1_printProverb_3 24 rfl rfl
theorem dX1_printProverb_0 : decode cX1_printProverb 0 = .ok (.aload_n 0, 1) := dk_42 (dk_at dksX1_printProverb_0 0 rfl rfl)
theorem dX1_printProverb_1 : decode cX1_printProverb 1 = .ok (.iload_n 1, 1) := dk_27 (dk_at dksX1_printProverb_0 1 rfl rfl)
theorem dX1_printProverb_2 : decode cX1_printProverb 2 = .ok (.invokevirtual 254, 3) := dk_182 0 254 (dk_at dksX1_printProverb_0 2 rfl rfl)
theorem dX1_printProverb_5 : decode cX1_printProverb 5 = .ok (.astore_n 2, 1) := dk_77 (dk_at dksX1_printProverb_0 5 rfl rfl)
theorem dX1_printProverb_6 : decode cX1_printProverb 6 = .ok (.aload_n 0, 1) := dk_42 (dk_at dksX1_printProverb_0 6 rfl rfl)
theorem dX1_printProverb_7 : decode cX1_printProverb 7 = .ok (.getfield 92, 3) := dk_180 0 92 (dk_at dksX1_printProverb_0 7 rfl rfl)
theorem dX1_printProverb_10 : decode cX1_printProverb 10 = .ok (.iconst 0, 1) := dk_3 (dk_at dksX1_printProverb_0 10 rfl rfl)
theorem dX1_printProverb_11 : decode cX1_printProverb 11 = .ok (.invokevirtual 468, 3) := dk_182 1 212 (dk_at dksX1_printProverb_0 11 rfl rfl)
theorem dX1_printProverb_14 : decode cX1_printProverb 14 = .ok (.aload_n 0, 1) := dk_42 (dk_at dksX1_printProverb_0 14 rfl rfl)
theorem dX1_printProverb_15 : decode cX1_printProverb 15 = .ok (.getfield 92, 3) := dk_180 0 92 (dk_at dksX1_printProverb_0 15 rfl rfl)
theorem dX1_printProverb_18 : decode cX1_printProverb 18 = .ok (.aload_n 2, 1) := dk_44 (dk_at dksX1_printProverb_0 18 rfl rfl)
theorem dX1_printProverb_19 : decode cX1_printProverb 19 = .ok (.getfield 257, 3) := dk_180 1 1 (dk_at dksX1_printProverb_0 19 rfl rfl)
theorem dX1_printProverb_22 : decode cX1_printProverb 22 = .ok (.invokevirtual 478, 3) := dk_182 1 222 (dk_at dksX1_printProverb_1 0 rfl rfl)
theorem dX1_printProverb_25 : decode cX1_printProverb 25 = .ok (.bipush 45, 2) := dk_16 45 (dk_at dksX1_printProverb_1 3 rfl rfl)
theorem dX1_printProverb_27 : decode cX1_printProverb 27 = .ok (.invokevirtual 471, 3) := dk_182 1 215 (dk_at dksX1_printProverb_1 5 rfl rfl)
theorem dX1_printProverb_30 : decode cX1_printProverb 30 = .ok (.aload_n 2, 1) := dk_44 (dk_at dksX1_printProverb_1 8 rfl rfl)
theorem dX1_printProverb_31 : decode cX1_printProverb 31 = .ok (.getfield 260, 3) := dk_180 1 4 (dk_at dksX1_printProverb_1 9 rfl rfl)
theorem dX1_printProverb_34 : decode cX1_printProverb 34 = .ok (.invokevirtual 478, 3) := dk_182 1 222 (dk_at dksX1_printProverb_1 12 rfl rfl)
theorem dX1_printProverb_37 : decode cX1_printProverb 37 = .ok (.bipush 64, 2) := dk_16 64 (dk_at dksX1_printProverb_1 15 rfl rfl)
theorem dX1_printProverb_39 : decode cX1_printProverb 39 = .ok (.invokevirtual 471, 3) := dk_182 1 215 (dk_at dksX1_printProverb_1 17 rfl rfl)
theorem dX1_printProverb_42 : decode cX1_printProverb 42 = .ok (.aload_n 2, 1) := dk_44 (dk_at dksX1_printProverb_1 20 rfl rfl)
theorem dX1_printProverb_43 : decode cX1_printProverb 43 = .ok (.getfield 263, 3) := dk_180 1 7 (dk_at dksX1_printProverb_1 21 rfl rfl)
theorem dX1_printProverb_46 : decode cX1_printProverb 46 = .ok (.invokevirtual 478, 3) := dk_182 1 222 (dk_at dksX1_printProverb_2 0 rfl rfl)
theorem dX1_printProverb_49 : decode cX1_printProverb 49 = .ok (.bipush 45, 2) := dk_16 45 (dk_at dksX1_printProverb_2 3 rfl rfl)
theorem dX1_printProverb_51 : decode cX1_printProverb 51 = .ok (.invokevirtual 471, 3) := dk_182 1 215 (dk_at dksX1_printProverb_2 5 rfl rfl)
theorem dX1_printProverb_54 : decode cX1_printProverb 54 = .ok (.aload_n 2, 1) := dk_44 (dk_at dksX1_printProverb_2 8 rfl rfl)
theorem dX1_printProverb_55 : decode cX1_printProverb 55 = .ok (.getfield 265, 3) := dk_180 1 9 (dk_at dksX1_printProverb_2 9 rfl rfl)
theorem dX1_printProverb_58 : decode cX1_printProverb 58 = .ok (.invokevirtual 478, 3) := dk_182 1 222 (dk_at dksX1_printProverb_2 12 rfl rfl)
theorem dX1_printProverb_61 : decode cX1_printProverb 61 = .ok (.pop, 1) := dk_87 (dk_at dksX1_printProverb_2 15 rfl rfl)
theorem dX1_printProverb_62 : decode cX1_printProverb 62 = .ok (.aload_n 0, 1) := dk_42 (dk_at dksX1_printProverb_2 16 rfl rfl)
theorem dX1_printProverb_63 : decode cX1_printProverb 63 = .ok (.getfield 92, 3) := dk_180 0 92 (dk_at dksX1_printProverb_2 17 rfl rfl)
theorem dX1_printProverb_66 : decode cX1_printProverb 66 = .ok (.bipush 62, 2) := dk_16 62 (dk_at dksX1_printProverb_2 20 rfl rfl)
theorem dX1_printProverb_68 : decode cX1_printProverb 68 = .ok (.invokevirtual 471, 3) := dk_182 1 215 (dk_at dksX1_printProverb_3 0 rfl rfl)
theorem dX1_printProverb_71 : decode cX1_printProverb 71 = .ok (.aload_n 2, 1) := dk_44 (dk_at dksX1_printProverb_3 3 rfl rfl)
theorem dX1_printProverb_72 : decode cX1_printProverb 72 = .ok (.getfield 268, 3) := dk_180 1 12 (dk_at dksX1_printProverb_3 4 rfl rfl)
theorem dX1_printProverb_75 : decode cX1_printProverb 75 = .ok (.invokevirtual 478, 3) := dk_182 1 222 (dk_at dksX1_printProverb_3 7 rfl rfl)
theorem dX1_printProverb_78 : decode cX1_printProverb 78 = .ok (.bipush 61, 2) := dk_16 61 (dk_at dksX1_printProverb_3 10 rfl rfl)
theorem dX1_printProverb_80 : decode cX1_printProverb 80 = .ok (.invokevirtual 471, 3) := dk_182 1 215 (dk_at dksX1_printProverb_3 12 rfl rfl)
theorem dX1_printProverb_83 : decode cX1_printProverb 83 = .ok (.aload_n 2, 1) := dk_44 (dk_at dksX1_printProverb_3 15 rfl rfl)
theorem dX1_printProverb_84 : decode cX1_printProverb 84 = .ok (.getfield 184, 3) := dk_180 0 184 (dk_at dksX1_printProverb_3 16 rfl rfl)
theorem dX1_printProverb_87 : decode cX1_printProverb 87 = .ok (.invokevirtual 478, 3) := dk_182 1 222 (dk_at dksX1_printProverb_3 19 rfl rfl)
theorem dX1_printProverb_90 : decode cX1_printProverb 90 = .ok (.pop, 1) := dk_87 (dk_at dksX1_printProverb_3 22 rfl rfl)
theorem dX1_printProverb_91 : decode cX1_printProverb 91 = .ok (.aload_n 2, 1) := dk_44 (dk_at dksX1_printProverb_3 23 rfl rfl)
theorem dX1_printProverb_92 : decode cX1_printProverb 92 = .ok (.getfield 180, 3) := dk_180 0 180 (dk_at dksX1_printProverb_4 0 rfl rfl)
theorem dX1_printProverb_95 : decode cX1_printProverb 95 = .ok (.ifCond .eq 13, 3) := dk_153 0 13 (dk_at dksX1_printProverb_4 3 rfl rfl)
theorem dX1_printProverb_98 : decode cX1_printProverb 98 = .ok (.aload_n 0, 1) := dk_42 (dk_at dksX1_printProverb_4 6 rfl rfl)
theorem dX1_printProverb_99 : decode cX1_printProverb 99 = .ok (.getfield 92, 3) := dk_180 0 92 (dk_at dksX1_printProverb_4 7 rfl rfl)
theorem dX1_printProverb_102 : decode cX1_printProverb 102 = .ok (.bipush 120, 2) := dk_16 120 (dk_at dksX1_printProverb_4 10 rfl rfl)
theorem dX1_printProverb_104 : decode cX1_printProverb 104 = .ok (.invokevirtual 471, 3) := dk_182 1 215 (dk_at dksX1_printProverb_4 12 rfl rfl)
theorem dX1_printProverb_107 : decode cX1_printProverb 107 = .ok (.pop, 1) := dk_87 (dk_at dksX1_printProverb_4 15 rfl rfl)
theorem dX1_printProverb_108 : decode cX1_printProverb 108 = .ok (.aload_n 0, 1) := dk_42 (dk_at dksX1_printProverb_4 16 rfl rfl)
theorem dX1_printProverb_109 : decode cX1_printProverb 109 = .ok (.getfield 92, 3) := dk_180 0 92 (dk_at dksX1_printProverb_4 17 rfl rfl)
theorem dX1_printProverb_112 : decode cX1_printProverb 112 = .ok (.invokevirtual 475, 3) := dk_182 1 219 (dk_at dksX1_printProverb_4 20 rfl rfl)
theorem dX1_printProverb_115 : decode cX1_printProverb 115 = .ok (.ireturn, 1) := dk_172 (dk_at dksX1_printProverb_4 23 rfl rfl)
abbrev cX1_restoreState : ByteArray := prog_1_method_80_code
def yX1_restoreState : MethodName := ⟨RX1, "restoreState", "()I"⟩
def dkwX1_restoreState_1 : List UInt8 := [181, 0, 72, 42, 180, 0, 85, 182, 0, 131, 42, 180, 0, 72, 180, 0, 217, 172]
abbrev dktX1_restoreState_1 : List UInt8 := dkwX1_restoreState_1 ++ []
def dkwX1_restoreState_0 : List UInt8 := [42, 180, 0, 134, 198, 0, 7, 4, 167, 0, 4, 3, 184, 1, 206, 42, 42, 180, 0, 134, 182, 0, 76]
abbrev dktX1_restoreState_0 : List UInt8 := dkwX1_restoreState_0 ++ dktX1_restoreState_1
theorem dksX1_restoreState_0 : cX1_restoreState.data.toList.drop 0 = dktX1_restoreState_0 := by decide +kernel
theorem dksX1_restoreState_1 : cX1_restoreState.data.toList.drop 23 = dktX1_restoreState_1 := dk_seg dksX1_restoreState_0 23 rfl rfl
theorem dX1_restoreState_0 : decode cX1_restoreState 0 = .ok (.aload_n 0, 1) := dk_42 (dk_at dksX1_restoreState_0 0 rfl rfl)
theorem dX1_restoreState_1 : decode cX1_restoreState 1 = .ok (.getfield 134, 3) := dk_180 0 134 (dk_at dksX1_restoreState_0 1 rfl rfl)
theorem dX1_restoreState_4 : decode cX1_restoreState 4 = .ok (.ifnull 7, 3) := dk_198 0 7 (dk_at dksX1_restoreState_0 4 rfl rfl)
theorem dX1_restoreState_7 : decode cX1_restoreState 7 = .ok (.iconst 1, 1) := dk_4 (dk_at dksX1_restoreState_0 7 rfl rfl)
theorem dX1_restoreState_8 : decode cX1_restoreState 8 = .ok (.goto 4, 3) := dk_167 0 4 (dk_at dksX1_restoreState_0 8 rfl rfl)
theorem dX1_restoreState_11 : decode cX1_restoreState 11 = .ok (.iconst 0, 1) := dk_3 (dk_at dksX1_restoreState_0 11 rfl rfl)
theorem dX1_restoreState_12 : decode cX1_restoreState 12 = .ok (.invokestatic 462, 3) := dk_184 1 206 (dk_at dksX1_restoreState_0 12 rfl rfl)
theorem dX1_restoreState_15 : decode cX1_restoreState 15 = .ok (.aload_n 0, 1) := dk_42 (dk_at dksX1_restoreState_0 15 rfl rfl)
theorem dX1_restoreState_16 : decode cX1_restoreState 16 = .ok (.aload_n 0, 1) := dk_42 (dk_at dksX1_restoreState_0 16 rfl rfl)
theorem dX1_restoreState_17 : decode cX1_restoreState 17 = .ok (.getfield 134, 3) := dk_180 0 134 (dk_at dksX1_restoreState_0 17 rfl rfl)
theorem dX1_restoreState_20 : decode cX1_restoreState 20 = .ok (.invokevirtual 76, 3) := dk_182 0 76 (dk_at dksX1_restoreState_0 20 rfl rfl)
theorem dX1_restoreState_23 : decode cX1_restoreState 23 = .ok (.putfield 72, 3) := dk_181 0 72 (dk_at dksX1_restoreState_1 0 rfl rfl)
theorem dX1_restoreState_26 : decode cX1_restoreState 26 = .ok (.aload_n 0, 1) := dk_42 (dk_at dksX1_restoreState_1 3 rfl rfl)
theorem dX1_restoreState_27 : decode cX1_restoreState 27 = .ok (.getfield 85, 3) := dk_180 0 85 (dk_at dksX1_restoreState_1 4 rfl rfl)
theorem dX1_restoreState_30 : decode cX1_restoreState 30 = .ok (.invokevirtual 131, 3) := dk_182 0 131 (dk_at dksX1_restoreState_1 7 rfl rfl)
theorem dX1_restoreState_33 : decode cX1_restoreState 33 = .ok (.aload_n 0, 1) := dk_42 (dk_at dksX1_restoreState_1 10 rfl rfl)
theorem dX1_restoreState_34 : decode cX1_restoreState 34 = .ok (.getfield 72, 3) := dk_180 0 72 (dk_at dksX1_restoreState_1 11 rfl rfl)
theorem dX1_restoreState_37 : decode cX1_restoreState 37 = .ok (.getfield 217, 3) := dk_180 0 217 (dk_at dksX1_restoreState_1 14 rfl rfl)
theorem dX1_restoreState_40 : decode cX1_restoreState 40 = .ok (.ireturn, 1) := dk_172 (dk_at dksX1_restoreState_1 17 rfl rfl)
theorem q133 : (Jvm.Cond.initialized "RoseProverbs") ∈ lw_all := lw_g (lw_at lw_m1 1 rfl) rfl
theorem q200 : (Jvm.Cond.instantiable "RoseProverbs" (9 : Nat)) ∈ lw_all := lw_g (lw_at lw_m1 68 rfl) rfl
theorem q202 : (Jvm.Cond.instanceMethod ({ cls := "RoseProverbs", name := "<init>", desc := "()V" } : Jvm.MethodName)) ∈ lw_all := lw_g (lw_at lw_m1 70 rfl) rfl
theorem q203 : (Jvm.Cond.code ({ cls := "RoseProverbs", name := "<init>", desc := "()V" } : Jvm.MethodName) prog_1_method_11_code (1 : Nat) (Option.none : Option Jvm.ClassFile.FieldType)) ∈ lw_all := lw_g (lw_at lw_m1 71 rfl) rfl
theorem q204 : (Jvm.Cond.methodLink "RoseProverbs" (57 : Nat) ({ cls := "java/lang/Object", name := "<init>", desc := "()V" } : Jvm.MethodName)) ∈ lw_all := lw_g (lw_at lw_m1 72 rfl) rfl
theorem q207 : (Jvm.Cond.methodLink "RoseProverbs" (68 : Nat) ({ cls := "RoseProverbs", name := "first", desc := "()LRoseProverbs$Rose;" } : Jvm.MethodName)) ∈ lw_all := lw_g (lw_at lw_m1 75 rfl) rfl
theorem q208 : (Jvm.Cond.static ({ cls := "RoseProverbs", name := "first", desc := "()LRoseProverbs$Rose;" } : Jvm.MethodName)) ∈ lw_all := lw_g (lw_at lw_m1 76 rfl) rfl
theorem q209 : (Jvm.Cond.code ({ cls := "RoseProverbs", name := "first", desc := "()LRoseProverbs$Rose;" } : Jvm.MethodName) prog_1_method_12_code (7 : Nat) (Option.some (Jvm.ClassFile.FieldType.object "RoseProverbs$Rose"))) ∈ lw_all := lw_g (lw_at lw_m1 77 rfl) rfl
theorem q210 : (Jvm.Cond.classLink "RoseProverbs" (19 : Nat) "RoseProverbs$Rose") ∈ lw_all := lw_g (lw_at lw_m1 78 rfl) rfl
theorem q212 : (Jvm.Cond.methodLinkNest "RoseProverbs" (96 : Nat) ({ cls := "RoseProverbs$Rose", name := "<init>", desc := "()V" } : Jvm.MethodName) "RoseProverbs") ∈ lw_tbl := lw_at lw_m1 80 rfl
theorem q608 : (Jvm.Cond.fieldLinkNest "RoseProverbs" (18 : Nat) "RoseProverbs$Rose" "proverbs" "Ljava/util/List;" "RoseProverbs") ∈ lw_tbl := lw_at lw_m2 236 rfl
theorem q610 : (Jvm.Cond.fieldLinkNest "RoseProverbs" (210 : Nat) "RoseProverbs$Rose" "bySaying" "Ljava/util/TreeMap;" "RoseProverbs") ∈ lw_tbl := lw_at lw_m2 238 rfl
theorem q613 : (Jvm.Cond.fieldLinkNest "RoseProverbs" (207 : Nat) "RoseProverbs$Rose" "settings" "[I" "RoseProverbs") ∈ lw_tbl := lw_at lw_m3 1 rfl
theorem q615 : (Jvm.Cond.fieldLinkNest "RoseProverbs" (34 : Nat) "RoseProverbs$Rose" "accounts" "[I" "RoseProverbs") ∈ lw_tbl := lw_at lw_m3 3 rfl
theorem q617 : (Jvm.Cond.fieldLinkNest "RoseProverbs" (366 : Nat) "RoseProverbs$Rose" "scores" "[I" "RoseProverbs") ∈ lw_tbl := lw_at lw_m3 5 rfl
theorem q619 : (Jvm.Cond.fieldLinkNest "RoseProverbs" (330 : Nat) "RoseProverbs$Rose" "met" "[S" "RoseProverbs") ∈ lw_tbl := lw_at lw_m3 7 rfl
theorem q621 : (Jvm.Cond.fieldLinkNest "RoseProverbs" (337 : Nat) "RoseProverbs$Rose" "beat" "[S" "RoseProverbs") ∈ lw_tbl := lw_at lw_m3 9 rfl
theorem q623 : (Jvm.Cond.fieldLinkNest "RoseProverbs" (369 : Nat) "RoseProverbs$Rose" "winds" "[B" "RoseProverbs") ∈ lw_tbl := lw_at lw_m3 11 rfl
theorem q625 : (Jvm.Cond.fieldLinkNest "RoseProverbs" (372 : Nat) "RoseProverbs$Rose" "came" "[B" "RoseProverbs") ∈ lw_tbl := lw_at lw_m3 13 rfl
theorem q627 : (Jvm.Cond.fieldLinkNest "RoseProverbs" (375 : Nat) "RoseProverbs$Rose" "told" "[B" "RoseProverbs") ∈ lw_tbl := lw_at lw_m3 15 rfl
theorem q631 : (Jvm.Cond.fieldLinkNest "RoseProverbs" (319 : Nat) "RoseProverbs$Rose" "many" "[I" "RoseProverbs") ∈ lw_tbl := lw_at lw_m3 19 rfl
theorem q634 : (Jvm.Cond.fieldLinkNest "RoseProverbs" (217 : Nat) "RoseProverbs$Rose" "day" "I" "RoseProverbs") ∈ lw_tbl := lw_at lw_m3 22 rfl
theorem q666 : (Jvm.Cond.classLink "RoseProverbs" (97 : Nat) "[I") ∈ lw_all := lw_g (lw_at lw_m3 54 rfl) rfl
theorem q668 : (Jvm.Cond.methodLink "RoseProverbs" (38 : Nat) ({ cls := "RoseProverbs$Rose", name := "comes", desc := "([I)I" } : Jvm.MethodName)) ∈ lw_all := lw_g (lw_at lw_m3 56 rfl) rfl
theorem q691 : (Jvm.Cond.fieldLinkNest "RoseProverbs" (301 : Nat) "RoseProverbs$Proverb" "number" "I" "RoseProverbs") ∈ lw_tbl := lw_at lw_m3 79 rfl
theorem q693 : (Jvm.Cond.fieldLinkNest "RoseProverbs" (257 : Nat) "RoseProverbs$Proverb" "from" "I" "RoseProverbs") ∈ lw_tbl := lw_at lw_m3 81 rfl
theorem q695 : (Jvm.Cond.fieldLinkNest "RoseProverbs" (260 : Nat) "RoseProverbs$Proverb" "to" "I" "RoseProverbs") ∈ lw_tbl := lw_at lw_m3 83 rfl
theorem q697 : (Jvm.Cond.fieldLinkNest "RoseProverbs" (263 : Nat) "RoseProverbs$Proverb" "first" "I" "RoseProverbs") ∈ lw_tbl := lw_at lw_m3 85 rfl
theorem q699 : (Jvm.Cond.fieldLinkNest "RoseProverbs" (265 : Nat) "RoseProverbs$Proverb" "last" "I" "RoseProverbs") ∈ lw_tbl := lw_at lw_m3 87 rfl
theorem q702 : (Jvm.Cond.fieldLinkNest "RoseProverbs" (268 : Nat) "RoseProverbs$Proverb" "weather" "I" "RoseProverbs") ∈ lw_tbl := lw_at lw_m3 90 rfl
theorem q705 : (Jvm.Cond.fieldLinkNest "RoseProverbs" (271 : Nat) "RoseProverbs$Proverb" "start" "I" "RoseProverbs") ∈ lw_tbl := lw_at lw_m3 93 rfl
theorem q709 : (Jvm.Cond.fieldLinkNest "RoseProverbs" (184 : Nat) "RoseProverbs$Proverb" "weight" "I" "RoseProverbs") ∈ lw_tbl := lw_at lw_m3 97 rfl
theorem q711 : (Jvm.Cond.fieldLinkNest "RoseProverbs" (274 : Nat) "RoseProverbs$Proverb" "right" "I" "RoseProverbs") ∈ lw_tbl := lw_at lw_m3 99 rfl
theorem q713 : (Jvm.Cond.fieldLinkNest "RoseProverbs" (277 : Nat) "RoseProverbs$Proverb" "wrong" "I" "RoseProverbs") ∈ lw_tbl := lw_at lw_m3 101 rfl
theorem q717 : (Jvm.Cond.fieldLinkNest "RoseProverbs" (180 : Nat) "RoseProverbs$Proverb" "forgotten" "Z" "RoseProverbs") ∈ lw_tbl := lw_at lw_m3 105 rfl
theorem q775 : (Jvm.Cond.selects "RoseProverbs" ({ cls := "java/lang/Object", name := "getClass", desc := "()Ljava/lang/Class;" } : Jvm.MethodName) ({ cls := "java/lang/Object", name := "getClass", desc := "()Ljava/lang/Class;" } : Jvm.MethodName)) ∈ lw_all := lw_g (lw_at lw_m3 163 rfl) rfl
theorem q1139 : (Jvm.Cond.methodLink "RoseProverbs" (76 : Nat) ({ cls := "RoseProverbs$Rose", name := "twin", desc := "()LRoseProverbs$Rose;" } : Jvm.MethodName)) ∈ lw_all := lw_g (lw_at lw_m5 47 rfl) rfl
theorem q1182 : (Jvm.Cond.classLink "RoseProverbs" (82 : Nat) "java/util/ArrayDeque") ∈ lw_all := lw_g (lw_at lw_m5 90 rfl) rfl
theorem q1184 : (Jvm.Cond.methodLink "RoseProverbs" (84 : Nat) ({ cls := "java/util/ArrayDeque", name := "<init>", desc := "()V" } : Jvm.MethodName)) ∈ lw_all := lw_g (lw_at lw_m5 92 rfl) rfl
theorem q1201 : (Jvm.Cond.classLink "RoseProverbs" (89 : Nat) "java/lang/StringBuilder") ∈ lw_all := lw_g (lw_at lw_m5 109 rfl) rfl
theorem q1202 : (Jvm.Cond.methodLink "RoseProverbs" (91 : Nat) ({ cls := "java/lang/StringBuilder", name := "<init>", desc := "()V" } : Jvm.MethodName)) ∈ lw_all := lw_g (lw_at lw_m5 110 rfl) rfl
theorem q1204 : (Jvm.Cond.fieldLink "RoseProverbs" (60 : Nat) "RoseProverbs" "input" "[B") ∈ lw_all := lw_g (lw_at lw_m5 112 rfl) rfl
theorem q1206 : (Jvm.Cond.fieldLink "RoseProverbs" (98 : Nat) "RoseProverbs" "inputLength" "I") ∈ lw_all := lw_g (lw_at lw_m5 114 rfl) rfl
theorem q1207 : (Jvm.Cond.fieldLink "RoseProverbs" (109 : Nat) "RoseProverbs" "errorCode" "I") ∈ lw_all := lw_g (lw_at lw_m5 115 rfl) rfl
theorem q1208 : (Jvm.Cond.fieldLink "RoseProverbs" (64 : Nat) "RoseProverbs" "errorOffset" "I") ∈ lw_all := lw_g (lw_at lw_m5 116 rfl) rfl
theorem q1209 : (Jvm.Cond.fieldLink "RoseProverbs" (72 : Nat) "RoseProverbs" "now" "LRoseProverbs$Rose;") ∈ lw_all := lw_g (lw_at lw_m5 117 rfl) rfl
theorem q1210 : (Jvm.Cond.fieldLink "RoseProverbs" (134 : Nat) "RoseProverbs" "saved" "LRoseProverbs$Rose;") ∈ lw_all := lw_g (lw_at lw_m5 118 rfl) rfl
theorem q1211 : (Jvm.Cond.fieldLink "RoseProverbs" (79 : Nat) "RoseProverbs" "thought" "LRoseProverbs$Rose;") ∈ lw_all := lw_g (lw_at lw_m5 119 rfl) rfl
theorem q1212 : (Jvm.Cond.fieldLink "RoseProverbs" (85 : Nat) "RoseProverbs" "history" "Ljava/util/ArrayDeque;") ∈ lw_all := lw_g (lw_at lw_m5 120 rfl) rfl
theorem q1213 : (Jvm.Cond.fieldLink "RoseProverbs" (92 : Nat) "RoseProverbs" "output" "Ljava/lang/StringBuilder;") ∈ lw_all := lw_g (lw_at lw_m5 121 rfl) rfl
theorem q1214 : (Jvm.Cond.laysFinal "RoseProverbs" "RoseProverbs" "input" "[B") ∈ lw_all := lw_g (lw_at lw_m5 122 rfl) rfl
theorem q1215 : (Jvm.Cond.soleField "RoseProverbs" "input") ∈ lw_all := lw_g (lw_at lw_m5 123 rfl) rfl
theorem q1216 : (Jvm.Cond.lays "RoseProverbs" "RoseProverbs" "inputLength" "I") ∈ lw_all := lw_g (lw_at lw_m5 124 rfl) rfl
theorem q1217 : (Jvm.Cond.soleField "RoseProverbs" "inputLength") ∈ lw_all := lw_g (lw_at lw_m5 125 rfl) rfl
theorem q1218 : (Jvm.Cond.lays "RoseProverbs" "RoseProverbs" "errorCode" "I") ∈ lw_all := lw_g (lw_at lw_m5 126 rfl) rfl
theorem q1219 : (Jvm.Cond.soleField "RoseProverbs" "errorCode") ∈ lw_all := lw_g (lw_at lw_m5 127 rfl) rfl
theorem q1220 : (Jvm.Cond.lays "RoseProverbs" "RoseProverbs" "errorOffset" "I") ∈ lw_all := lw_g (lw_at lw_m5 128 rfl) rfl
theorem q1221 : (Jvm.Cond.soleField "RoseProverbs" "errorOffset") ∈ lw_all := lw_g (lw_at lw_m5 129 rfl) rfl
theorem q1222 : (Jvm.Cond.lays "RoseProverbs" "RoseProverbs" "now" "LRoseProverbs$Rose;") ∈ lw_all := lw_g (lw_at lw_m5 130 rfl) rfl
theorem q1223 : (Jvm.Cond.soleField "RoseProverbs" "now") ∈ lw_all := lw_g (lw_at lw_m5 131 rfl) rfl
theorem q1224 : (Jvm.Cond.lays "RoseProverbs" "RoseProverbs" "saved" "LRoseProverbs$Rose;") ∈ lw_all := lw_g (lw_at lw_m5 132 rfl) rfl
theorem q1225 : (Jvm.Cond.soleField "RoseProverbs" "saved") ∈ lw_all := lw_g (lw_at lw_m5 133 rfl) rfl
theorem q1226 : (Jvm.Cond.lays "RoseProverbs" "RoseProverbs" "thought" "LRoseProverbs$Rose;") ∈ lw_all := lw_g (lw_at lw_m5 134 rfl) rfl
theorem q1227 : (Jvm.Cond.soleField "RoseProverbs" "thought") ∈ lw_all := lw_g (lw_at lw_m5 135 rfl) rfl
theorem q1228 : (Jvm.Cond.laysFinal "RoseProverbs" "RoseProverbs" "history" "Ljava/util/ArrayDeque;") ∈ lw_all := lw_g (lw_at lw_m5 136 rfl) rfl
theorem q1229 : (Jvm.Cond.soleField "RoseProverbs" "history") ∈ lw_all := lw_g (lw_at lw_m5 137 rfl) rfl
theorem q1230 : (Jvm.Cond.laysFinal "RoseProverbs" "RoseProverbs" "output" "Ljava/lang/StringBuilder;") ∈ lw_all := lw_g (lw_at lw_m5 138 rfl) rfl
theorem q1231 : (Jvm.Cond.soleField "RoseProverbs" "output") ∈ lw_all := lw_g (lw_at lw_m5 139 rfl) rfl
theorem q1232 : (Jvm.Cond.superclass "RoseProverbs" "java/lang/Object") ∈ lw_all := lw_g (lw_at lw_m5 140 rfl) rfl
theorem q1234 : (Jvm.Cond.instanceMethod ({ cls := "RoseProverbs", name := "appendInput", desc := "(IIIII)I" } : Jvm.MethodName)) ∈ lw_all := lw_g (lw_at lw_m5 142 rfl) rfl
theorem q1235 : (Jvm.Cond.selects "RoseProverbs" ({ cls := "RoseProverbs", name := "appendInput", desc := "(IIIII)I" } : Jvm.MethodName) ({ cls := "RoseProverbs", name := "appendInput", desc := "(IIIII)I" } : Jvm.MethodName)) ∈ lw_all := lw_g (lw_at lw_m5 143 rfl) rfl
theorem q1236 : (Jvm.Cond.code ({ cls := "RoseProverbs", name := "appendInput", desc := "(IIIII)I" } : Jvm.MethodName) prog_1_method_14_code (6 : Nat) (Option.some Jvm.ClassFile.FieldType.int)) ∈ lw_all := lw_g (lw_at lw_m5 144 rfl) rfl
theorem q1237 : (Jvm.Cond.methodLink "RoseProverbs" (101 : Nat) ({ cls := "RoseProverbs", name := "appends", desc := "(I)V" } : Jvm.MethodName)) ∈ lw_all := lw_g (lw_at lw_m5 145 rfl) rfl
theorem q1238 : (Jvm.Cond.privateMethod ({ cls := "RoseProverbs", name := "appends", desc := "(I)V" } : Jvm.MethodName)) ∈ lw_tbl := lw_at lw_m5 146 rfl
theorem q1239 : (Jvm.Cond.instanceMethod ({ cls := "RoseProverbs", name := "appends", desc := "(I)V" } : Jvm.MethodName)) ∈ lw_all := lw_g (lw_at lw_m5 147 rfl) rfl
theorem q1240 : (Jvm.Cond.code ({ cls := "RoseProverbs", name := "appends", desc := "(I)V" } : Jvm.MethodName) prog_1_method_13_code (3 : Nat) (Option.none : Option Jvm.ClassFile.FieldType)) ∈ lw_all := lw_g (lw_at lw_m5 148 rfl) rfl
theorem q1242 : (Jvm.Cond.instanceMethod ({ cls := "RoseProverbs", name := "truncateInput", desc := "(I)Z" } : Jvm.MethodName)) ∈ lw_all := lw_g (lw_at lw_m5 150 rfl) rfl
theorem q1243 : (Jvm.Cond.selects "RoseProverbs" ({ cls := "RoseProverbs", name := "truncateInput", desc := "(I)Z" } : Jvm.MethodName) ({ cls := "RoseProverbs", name := "truncateInput", desc := "(I)Z" } : Jvm.MethodName)) ∈ lw_all := lw_g (lw_at lw_m5 151 rfl) rfl
theorem q1244 : (Jvm.Cond.code ({ cls := "RoseProverbs", name := "truncateInput", desc := "(I)Z" } : Jvm.MethodName) prog_1_method_15_code (2 : Nat) (Option.some Jvm.ClassFile.FieldType.boolean)) ∈ lw_all := lw_g (lw_at lw_m5 152 rfl) rfl
theorem q1245 : (Jvm.Cond.methodLink "RoseProverbs" (105 : Nat) ({ cls := "RoseProverbs", name := "isIn", desc := "(JJJ)Z" } : Jvm.MethodName)) ∈ lw_all := lw_g (lw_at lw_m5 153 rfl) rfl
theorem q1246 : (Jvm.Cond.static ({ cls := "RoseProverbs", name := "isIn", desc := "(JJJ)Z" } : Jvm.MethodName)) ∈ lw_all := lw_g (lw_at lw_m5 154 rfl) rfl
theorem q1247 : (Jvm.Cond.code ({ cls := "RoseProverbs", name := "isIn", desc := "(JJJ)Z" } : Jvm.MethodName) prog_1_method_1_code (6 : Nat) (Option.some Jvm.ClassFile.FieldType.boolean)) ∈ lw_all := lw_g (lw_at lw_m5 155 rfl) rfl
theorem q1249 : (Jvm.Cond.instanceMethod ({ cls := "RoseProverbs", name := "loadRose", desc := "()I" } : Jvm.MethodName)) ∈ lw_all := lw_g (lw_at lw_m5 157 rfl) rfl
theorem q1250 : (Jvm.Cond.selects "RoseProverbs" ({ cls := "RoseProverbs", name := "loadRose", desc := "()I" } : Jvm.MethodName) ({ cls := "RoseProverbs", name := "loadRose", desc := "()I" } : Jvm.MethodName)) ∈ lw_all := lw_g (lw_at lw_m5 158 rfl) rfl
theorem q1251 : (Jvm.Cond.codeWith ({ cls := "RoseProverbs", name := "loadRose", desc := "()I" } : Jvm.MethodName) prog_1_method_18_code (4 : Nat) (Option.some Jvm.ClassFile.FieldType.int) [((4 : Nat), (55 : Nat), (62 : Nat), (113 : Nat)), ((4 : Nat), (55 : Nat), (76 : Nat), (0 : Nat)), ((62 : Nat), (69 : Nat), (76 : Nat), (0 : Nat))]) ∈ lw_all := lw_g (lw_at lw_m5 159 rfl) rfl
theorem q1252 : (Jvm.Cond.classLink "RoseProverbs" (113 : Nat) "RoseProverbs$ParseException") ∈ lw_all := lw_g (lw_at lw_m5 160 rfl) rfl
theorem q1253 : (Jvm.Cond.methodLink "RoseProverbs" (120 : Nat) ({ cls := "RoseProverbs", name := "startsText", desc := "()V" } : Jvm.MethodName)) ∈ lw_all := lw_g (lw_at lw_m5 161 rfl) rfl
theorem q1254 : (Jvm.Cond.privateMethod ({ cls := "RoseProverbs", name := "startsText", desc := "()V" } : Jvm.MethodName)) ∈ lw_tbl := lw_at lw_m5 162 rfl
theorem q1255 : (Jvm.Cond.instanceMethod ({ cls := "RoseProverbs", name := "startsText", desc := "()V" } : Jvm.MethodName)) ∈ lw_all := lw_g (lw_at lw_m5 163 rfl) rfl
theorem q1256 : (Jvm.Cond.code ({ cls := "RoseProverbs", name := "startsText", desc := "()V" } : Jvm.MethodName) prog_1_method_16_code (1 : Nat) (Option.none : Option Jvm.ClassFile.FieldType)) ∈ lw_all := lw_g (lw_at lw_m5 164 rfl) rfl
theorem q1257 : (Jvm.Cond.classLink "RoseProverbs" (123 : Nat) "RoseProverbs$Setup") ∈ lw_all := lw_g (lw_at lw_m5 165 rfl) rfl
theorem q1259 : (Jvm.Cond.methodLinkNest "RoseProverbs" (125 : Nat) ({ cls := "RoseProverbs$Setup", name := "<init>", desc := "(LRoseProverbs;)V" } : Jvm.MethodName) "RoseProverbs") ∈ lw_tbl := lw_at lw_m5 167 rfl
theorem q1424 : (Jvm.Cond.methodLink "RoseProverbs" (128 : Nat) ({ cls := "RoseProverbs$Setup", name := "read", desc := "()LRoseProverbs$Rose;" } : Jvm.MethodName)) ∈ lw_all := lw_g (lw_at lw_m6 92 rfl) rfl
theorem q1479 : (Jvm.Cond.fieldLinkNest "RoseProverbs" (112 : Nat) "RoseProverbs$ParseException" "code" "I" "RoseProverbs") ∈ lw_tbl := lw_at lw_m6 147 rfl
theorem q1481 : (Jvm.Cond.fieldLinkNest "RoseProverbs" (117 : Nat) "RoseProverbs$ParseException" "offset" "I" "RoseProverbs") ∈ lw_tbl := lw_at lw_m6 149 rfl
theorem q1536 : (Jvm.Cond.static ({ cls := "RoseProverbs", name := "settingOf", desc := "(Ljava/lang/String;)I" } : Jvm.MethodName)) ∈ lw_all := lw_g (lw_at lw_m6 204 rfl) rfl
theorem q1537 : (Jvm.Cond.code ({ cls := "RoseProverbs", name := "settingOf", desc := "(Ljava/lang/String;)I" } : Jvm.MethodName) prog_1_method_10_code (3 : Nat) (Option.some Jvm.ClassFile.FieldType.int)) ∈ lw_all := lw_g (lw_at lw_m6 205 rfl) rfl
theorem q1538 : (Jvm.Cond.methodLink "RoseProverbs" (42 : Nat) ({ cls := "java/lang/String", name := "hashCode", desc := "()I" } : Jvm.MethodName)) ∈ lw_all := lw_g (lw_at lw_m6 206 rfl) rfl
theorem q1595 : (Jvm.Cond.stringRef "RoseProverbs" (47 : Nat) "rule") ∈ lw_tbl := lw_at lw_m7 23 rfl
theorem q1596 : (Jvm.Cond.methodLink "RoseProverbs" (49 : Nat) ({ cls := "java/lang/String", name := "equals", desc := "(Ljava/lang/Object;)Z" } : Jvm.MethodName)) ∈ lw_all := lw_g (lw_at lw_m7 24 rfl) rfl
theorem q1597 : (Jvm.Cond.stringRef "RoseProverbs" (53 : Nat) "rise") ∈ lw_tbl := lw_at lw_m7 25 rfl
theorem q1598 : (Jvm.Cond.stringRef "RoseProverbs" (55 : Nat) "fall") ∈ lw_tbl := lw_at lw_m7 26 rfl
theorem q1600 : (Jvm.Cond.static ({ cls := "RoseProverbs", name := "bound", desc := "(I)I" } : Jvm.MethodName)) ∈ lw_all := lw_g (lw_at lw_m7 28 rfl) rfl
theorem q1601 : (Jvm.Cond.code ({ cls := "RoseProverbs", name := "bound", desc := "(I)I" } : Jvm.MethodName) prog_1_method_7_code (1 : Nat) (Option.some Jvm.ClassFile.FieldType.int)) ∈ lw_all := lw_g (lw_at lw_m7 29 rfl) rfl
theorem q1612 : (Jvm.Cond.methodLink "RoseProverbs" (131 : Nat) ({ cls := "java/util/ArrayDeque", name := "clear", desc := "()V" } : Jvm.MethodName)) ∈ lw_all := lw_g (lw_at lw_m7 40 rfl) rfl
theorem q1619 : (Jvm.Cond.interfaceEntry "RoseProverbs" (24 : Nat)) ∈ lw_tbl := lw_at lw_m7 47 rfl
theorem q1620 : (Jvm.Cond.methodLink "RoseProverbs" (24 : Nat) ({ cls := "java/util/List", name := "size", desc := "()I" } : Jvm.MethodName)) ∈ lw_all := lw_g (lw_at lw_m7 48 rfl) rfl
theorem q1621 : (Jvm.Cond.methodLink "RoseProverbs" (137 : Nat) ({ cls := "RoseProverbs", name := "fails", desc := "(LRoseProverbs$ParseException;)I" } : Jvm.MethodName)) ∈ lw_all := lw_g (lw_at lw_m7 49 rfl) rfl
theorem q1622 : (Jvm.Cond.privateMethod ({ cls := "RoseProverbs", name := "fails", desc := "(LRoseProverbs$ParseException;)I" } : Jvm.MethodName)) ∈ lw_tbl := lw_at lw_m7 50 rfl
theorem q1623 : (Jvm.Cond.instanceMethod ({ cls := "RoseProverbs", name := "fails", desc := "(LRoseProverbs$ParseException;)I" } : Jvm.MethodName)) ∈ lw_all := lw_g (lw_at lw_m7 51 rfl) rfl
theorem q1624 : (Jvm.Cond.code ({ cls := "RoseProverbs", name := "fails", desc := "(LRoseProverbs$ParseException;)I" } : Jvm.MethodName) prog_1_method_17_code (2 : Nat) (Option.some Jvm.ClassFile.FieldType.int)) ∈ lw_all := lw_g (lw_at lw_m7 52 rfl) rfl
theorem q1626 : (Jvm.Cond.instanceMethod ({ cls := "RoseProverbs", name := "playScript", desc := "()I" } : Jvm.MethodName)) ∈ lw_all := lw_g (lw_at lw_m7 54 rfl) rfl
theorem q1627 : (Jvm.Cond.selects "RoseProverbs" ({ cls := "RoseProverbs", name := "playScript", desc := "()I" } : Jvm.MethodName) ({ cls := "RoseProverbs", name := "playScript", desc := "()I" } : Jvm.MethodName)) ∈ lw_all := lw_g (lw_at lw_m7 55 rfl) rfl
theorem q1628 : (Jvm.Cond.codeWith ({ cls := "RoseProverbs", name := "playScript", desc := "()I" } : Jvm.MethodName) prog_1_method_19_code (4 : Nat) (Option.some Jvm.ClassFile.FieldType.int) [((4 : Nat), (20 : Nat), (27 : Nat), (113 : Nat)), ((4 : Nat), (20 : Nat), (41 : Nat), (0 : Nat)), ((27 : Nat), (34 : Nat), (41 : Nat), (0 : Nat))]) ∈ lw_all := lw_g (lw_at lw_m7 56 rfl) rfl
theorem q1629 : (Jvm.Cond.classLink "RoseProverbs" (141 : Nat) "RoseProverbs$Script") ∈ lw_all := lw_g (lw_at lw_m7 57 rfl) rfl
theorem q1631 : (Jvm.Cond.methodLinkNest "RoseProverbs" (143 : Nat) ({ cls := "RoseProverbs$Script", name := "<init>", desc := "(LRoseProverbs;)V" } : Jvm.MethodName) "RoseProverbs") ∈ lw_tbl := lw_at lw_m7 59 rfl
theorem q1650 : (Jvm.Cond.methodLink "RoseProverbs" (144 : Nat) ({ cls := "RoseProverbs$Script", name := "read", desc := "()Ljava/util/List;" } : Jvm.MethodName)) ∈ lw_all := lw_g (lw_at lw_m7 78 rfl) rfl
theorem q1792 : (Jvm.Cond.methodLink "RoseProverbs" (147 : Nat) ({ cls := "RoseProverbs", name := "plays", desc := "(Ljava/util/List;)I" } : Jvm.MethodName)) ∈ lw_all := lw_g (lw_at lw_m7 220 rfl) rfl
theorem q1793 : (Jvm.Cond.privateMethod ({ cls := "RoseProverbs", name := "plays", desc := "(Ljava/util/List;)I" } : Jvm.MethodName)) ∈ lw_tbl := lw_at lw_m7 221 rfl
theorem q1794 : (Jvm.Cond.instanceMethod ({ cls := "RoseProverbs", name := "plays", desc := "(Ljava/util/List;)I" } : Jvm.MethodName)) ∈ lw_all := lw_g (lw_at lw_m7 222 rfl) rfl
theorem q1795 : (Jvm.Cond.code ({ cls := "RoseProverbs", name := "plays", desc := "(Ljava/util/List;)I" } : Jvm.MethodName) prog_1_method_20_code (4 : Nat) (Option.some Jvm.ClassFile.FieldType.int)) ∈ lw_all := lw_g (lw_at lw_m7 223 rfl) rfl
theorem q1796 : (Jvm.Cond.methodLink "RoseProverbs" (151 : Nat) ({ cls := "RoseProverbs", name := "changed", desc := "()LRoseProverbs$Rose;" } : Jvm.MethodName)) ∈ lw_all := lw_g (lw_at lw_m7 224 rfl) rfl
theorem q1797 : (Jvm.Cond.privateMethod ({ cls := "RoseProverbs", name := "changed", desc := "()LRoseProverbs$Rose;" } : Jvm.MethodName)) ∈ lw_tbl := lw_at lw_m7 225 rfl
theorem q1798 : (Jvm.Cond.instanceMethod ({ cls := "RoseProverbs", name := "changed", desc := "()LRoseProverbs$Rose;" } : Jvm.MethodName)) ∈ lw_all := lw_g (lw_at lw_m7 226 rfl) rfl
theorem q1799 : (Jvm.Cond.code ({ cls := "RoseProverbs", name := "changed", desc := "()LRoseProverbs$Rose;" } : Jvm.MethodName) prog_1_method_69_code (1 : Nat) (Option.some (Jvm.ClassFile.FieldType.object "RoseProverbs$Rose"))) ∈ lw_all := lw_g (lw_at lw_m7 227 rfl) rfl
theorem q1800 : (Jvm.Cond.methodLink "RoseProverbs" (234 : Nat) ({ cls := "java/util/ArrayDeque", name := "size", desc := "()I" } : Jvm.MethodName)) ∈ lw_all := lw_g (lw_at lw_m7 228 rfl) rfl
theorem q1807 : (Jvm.Cond.methodLink "RoseProverbs" (438 : Nat) ({ cls := "java/util/ArrayDeque", name := "removeFirst", desc := "()Ljava/lang/Object;" } : Jvm.MethodName)) ∈ lw_all := lw_g (lw_at lw_m7 235 rfl) rfl
theorem q1842 : (Jvm.Cond.methodLink "RoseProverbs" (441 : Nat) ({ cls := "java/util/ArrayDeque", name := "addLast", desc := "(Ljava/lang/Object;)V" } : Jvm.MethodName)) ∈ lw_all := lw_g (lw_at lw_m8 30 rfl) rfl
theorem q1874 : (Jvm.Cond.interfaceEntry "RoseProverbs" (154 : Nat)) ∈ lw_tbl := lw_at lw_m8 62 rfl
theorem q1875 : (Jvm.Cond.methodLink "RoseProverbs" (154 : Nat) ({ cls := "java/util/List", name := "get", desc := "(I)Ljava/lang/Object;" } : Jvm.MethodName)) ∈ lw_all := lw_g (lw_at lw_m8 63 rfl) rfl
theorem q1876 : (Jvm.Cond.classLink "RoseProverbs" (158 : Nat) "RoseProverbs$Deed") ∈ lw_all := lw_g (lw_at lw_m8 64 rfl) rfl
theorem q1877 : (Jvm.Cond.methodLink "RoseProverbs" (160 : Nat) ({ cls := "RoseProverbs$Deed", name := "does", desc := "(LRoseProverbs$Rose;)Z" } : Jvm.MethodName)) ∈ lw_all := lw_g (lw_at lw_m8 65 rfl) rfl
theorem q1948 : (Jvm.Cond.static ({ cls := "RoseProverbs", name := "bit", desc := "(Z)I" } : Jvm.MethodName)) ∈ lw_all := lw_g (lw_at lw_m8 136 rfl) rfl
theorem q1949 : (Jvm.Cond.code ({ cls := "RoseProverbs", name := "bit", desc := "(Z)I" } : Jvm.MethodName) prog_1_method_6_code (1 : Nat) (Option.some Jvm.ClassFile.FieldType.int)) ∈ lw_all := lw_g (lw_at lw_m8 137 rfl) rfl
theorem q1972 : (Jvm.Cond.static ({ cls := "RoseProverbs", name := "mayCome", desc := "(LRoseProverbs$Rose;[I)Z" } : Jvm.MethodName)) ∈ lw_all := lw_g (lw_at lw_m8 160 rfl) rfl
theorem q1973 : (Jvm.Cond.code ({ cls := "RoseProverbs", name := "mayCome", desc := "(LRoseProverbs$Rose;[I)Z" } : Jvm.MethodName) prog_1_method_8_code (2 : Nat) (Option.some Jvm.ClassFile.FieldType.boolean)) ∈ lw_all := lw_g (lw_at lw_m8 161 rfl) rfl
theorem q1974 : (Jvm.Cond.methodLink "RoseProverbs" (30 : Nat) ({ cls := "RoseProverbs$Rose", name := "isTold", desc := "([I)Z" } : Jvm.MethodName)) ∈ lw_all := lw_g (lw_at lw_m8 162 rfl) rfl
theorem q1976 : (Jvm.Cond.static ({ cls := "RoseProverbs", name := "comes", desc := "(LRoseProverbs$Rose;[I)I" } : Jvm.MethodName)) ∈ lw_all := lw_g (lw_at lw_m8 164 rfl) rfl
theorem q1977 : (Jvm.Cond.code ({ cls := "RoseProverbs", name := "comes", desc := "(LRoseProverbs$Rose;[I)I" } : Jvm.MethodName) prog_1_method_9_code (2 : Nat) (Option.some Jvm.ClassFile.FieldType.int)) ∈ lw_all := lw_g (lw_at lw_m8 165 rfl) rfl
theorem q2024 : (Jvm.Cond.instanceMethod ({ cls := "RoseProverbs", name := "errorCode", desc := "()I" } : Jvm.MethodName)) ∈ lw_all := lw_g (lw_at lw_m8 212 rfl) rfl
theorem q2025 : (Jvm.Cond.selects "RoseProverbs" ({ cls := "RoseProverbs", name := "errorCode", desc := "()I" } : Jvm.MethodName) ({ cls := "RoseProverbs", name := "errorCode", desc := "()I" } : Jvm.MethodName)) ∈ lw_all := lw_g (lw_at lw_m8 213 rfl) rfl
theorem q2026 : (Jvm.Cond.code ({ cls := "RoseProverbs", name := "errorCode", desc := "()I" } : Jvm.MethodName) prog_1_method_21_code (1 : Nat) (Option.some Jvm.ClassFile.FieldType.int)) ∈ lw_all := lw_g (lw_at lw_m8 214 rfl) rfl
theorem q2028 : (Jvm.Cond.instanceMethod ({ cls := "RoseProverbs", name := "errorOffset", desc := "()I" } : Jvm.MethodName)) ∈ lw_all := lw_g (lw_at lw_m8 216 rfl) rfl
theorem q2029 : (Jvm.Cond.selects "RoseProverbs" ({ cls := "RoseProverbs", name := "errorOffset", desc := "()I" } : Jvm.MethodName) ({ cls := "RoseProverbs", name := "errorOffset", desc := "()I" } : Jvm.MethodName)) ∈ lw_all := lw_g (lw_at lw_m8 217 rfl) rfl
theorem q2030 : (Jvm.Cond.code ({ cls := "RoseProverbs", name := "errorOffset", desc := "()I" } : Jvm.MethodName) prog_1_method_22_code (1 : Nat) (Option.some Jvm.ClassFile.FieldType.int)) ∈ lw_all := lw_g (lw_at lw_m8 218 rfl) rfl
theorem q2032 : (Jvm.Cond.instanceMethod ({ cls := "RoseProverbs", name := "byWeight", desc := "(I)I" } : Jvm.MethodName)) ∈ lw_all := lw_g (lw_at lw_m8 220 rfl) rfl
theorem q2033 : (Jvm.Cond.selects "RoseProverbs" ({ cls := "RoseProverbs", name := "byWeight", desc := "(I)I" } : Jvm.MethodName) ({ cls := "RoseProverbs", name := "byWeight", desc := "(I)I" } : Jvm.MethodName)) ∈ lw_all := lw_g (lw_at lw_m8 221 rfl) rfl
theorem q2034 : (Jvm.Cond.code ({ cls := "RoseProverbs", name := "byWeight", desc := "(I)I" } : Jvm.MethodName) prog_1_method_47_code (6 : Nat) (Option.some Jvm.ClassFile.FieldType.int)) ∈ lw_all := lw_g (lw_at lw_m8 222 rfl) rfl
theorem q2035 : (Jvm.Cond.methodLink "RoseProverbs" (214 : Nat) ({ cls := "java/util/TreeMap", name := "size", desc := "()I" } : Jvm.MethodName)) ∈ lw_all := lw_g (lw_at lw_m8 223 rfl) rfl
theorem q2036 : (Jvm.Cond.classLink "RoseProverbs" (340 : Nat) "java/util/PriorityQueue") ∈ lw_all := lw_g (lw_at lw_m8 224 rfl) rfl
theorem q2038 : (Jvm.Cond.classLink "RoseProverbs" (342 : Nat) "RoseProverbs$Heavier") ∈ lw_all := lw_g (lw_at lw_m8 226 rfl) rfl
theorem q2040 : (Jvm.Cond.methodLinkNest "RoseProverbs" (344 : Nat) ({ cls := "RoseProverbs$Heavier", name := "<init>", desc := "()V" } : Jvm.MethodName) "RoseProverbs") ∈ lw_tbl := lw_at lw_m8 228 rfl
theorem q2045 : (Jvm.Cond.methodLink "RoseProverbs" (345 : Nat) ({ cls := "java/util/PriorityQueue", name := "<init>", desc := "(Ljava/util/Comparator;)V" } : Jvm.MethodName)) ∈ lw_all := lw_g (lw_at lw_m8 233 rfl) rfl
theorem q2077 : (Jvm.Cond.methodLink "RoseProverbs" (348 : Nat) ({ cls := "java/util/TreeMap", name := "values", desc := "()Ljava/util/Collection;" } : Jvm.MethodName)) ∈ lw_all := lw_g (lw_at lw_m9 25 rfl) rfl
theorem q2091 : (Jvm.Cond.interfaceEntry "RoseProverbs" (352 : Nat)) ∈ lw_tbl := lw_at lw_m9 39 rfl
theorem q2092 : (Jvm.Cond.methodLink "RoseProverbs" (352 : Nat) ({ cls := "java/util/Collection", name := "iterator", desc := "()Ljava/util/Iterator;" } : Jvm.MethodName)) ∈ lw_all := lw_g (lw_at lw_m9 40 rfl) rfl
theorem q2227 : (Jvm.Cond.interfaceEntry "RoseProverbs" (168 : Nat)) ∈ lw_tbl := lw_at lw_m9 175 rfl
theorem q2228 : (Jvm.Cond.methodLink "RoseProverbs" (168 : Nat) ({ cls := "java/util/Iterator", name := "hasNext", desc := "()Z" } : Jvm.MethodName)) ∈ lw_all := lw_g (lw_at lw_m9 176 rfl) rfl
theorem q2270 : (Jvm.Cond.interfaceEntry "RoseProverbs" (174 : Nat)) ∈ lw_tbl := lw_at lw_m9 218 rfl
theorem q2271 : (Jvm.Cond.methodLink "RoseProverbs" (174 : Nat) ({ cls := "java/util/Iterator", name := "next", desc := "()Ljava/lang/Object;" } : Jvm.MethodName)) ∈ lw_all := lw_g (lw_at lw_m9 219 rfl) rfl
theorem q2285 : (Jvm.Cond.static ({ cls := "RoseProverbs", name := "checkElement", desc := "(Z)V" } : Jvm.MethodName)) ∈ lw_all := lw_g (lw_at lw_m9 233 rfl) rfl
theorem q2286 : (Jvm.Cond.code ({ cls := "RoseProverbs", name := "checkElement", desc := "(Z)V" } : Jvm.MethodName) prog_1_method_5_code (1 : Nat) (Option.none : Option Jvm.ClassFile.FieldType)) ∈ lw_all := lw_g (lw_at lw_m9 234 rfl) rfl
theorem q2287 : (Jvm.Cond.classLink "RoseProverbs" (13 : Nat) "java/util/NoSuchElementException") ∈ lw_all := lw_g (lw_at lw_m9 235 rfl) rfl
theorem q2288 : (Jvm.Cond.methodLink "RoseProverbs" (15 : Nat) ({ cls := "java/util/NoSuchElementException", name := "<init>", desc := "()V" } : Jvm.MethodName)) ∈ lw_all := lw_g (lw_at lw_m9 236 rfl) rfl
theorem q2355 : (Jvm.Cond.classLink "RoseProverbs" (178 : Nat) "RoseProverbs$Proverb") ∈ lw_all := lw_g (lw_at lw_m10 63 rfl) rfl
theorem q2356 : (Jvm.Cond.methodLink "RoseProverbs" (355 : Nat) ({ cls := "java/util/PriorityQueue", name := "add", desc := "(Ljava/lang/Object;)Z" } : Jvm.MethodName)) ∈ lw_all := lw_g (lw_at lw_m10 64 rfl) rfl
theorem q2385 : (Jvm.Cond.methodLink "RoseProverbs" (358 : Nat) ({ cls := "java/util/PriorityQueue", name := "poll", desc := "()Ljava/lang/Object;" } : Jvm.MethodName)) ∈ lw_all := lw_g (lw_at lw_m10 93 rfl) rfl
theorem q2395 : (Jvm.Cond.methodLink "RoseProverbs" (361 : Nat) ({ cls := "java/util/PriorityQueue", name := "peek", desc := "()Ljava/lang/Object;" } : Jvm.MethodName)) ∈ lw_all := lw_g (lw_at lw_m10 103 rfl) rfl
theorem q2400 : (Jvm.Cond.instanceMethod ({ cls := "RoseProverbs", name := "bestRule", desc := "()I" } : Jvm.MethodName)) ∈ lw_all := lw_g (lw_at lw_m10 108 rfl) rfl
theorem q2401 : (Jvm.Cond.selects "RoseProverbs" ({ cls := "RoseProverbs", name := "bestRule", desc := "()I" } : Jvm.MethodName) ({ cls := "RoseProverbs", name := "bestRule", desc := "()I" } : Jvm.MethodName)) ∈ lw_all := lw_g (lw_at lw_m10 109 rfl) rfl
theorem q2402 : (Jvm.Cond.code ({ cls := "RoseProverbs", name := "bestRule", desc := "()I" } : Jvm.MethodName) prog_1_method_57_code (5 : Nat) (Option.some Jvm.ClassFile.FieldType.int)) ∈ lw_all := lw_g (lw_at lw_m10 110 rfl) rfl
theorem q2403 : (Jvm.Cond.methodLink "RoseProverbs" (410 : Nat) ({ cls := "RoseProverbs", name := "rightByRule", desc := "(I)I" } : Jvm.MethodName)) ∈ lw_all := lw_g (lw_at lw_m10 111 rfl) rfl
theorem q2404 : (Jvm.Cond.privateMethod ({ cls := "RoseProverbs", name := "rightByRule", desc := "(I)I" } : Jvm.MethodName)) ∈ lw_tbl := lw_at lw_m10 112 rfl
theorem q2405 : (Jvm.Cond.instanceMethod ({ cls := "RoseProverbs", name := "rightByRule", desc := "(I)I" } : Jvm.MethodName)) ∈ lw_all := lw_g (lw_at lw_m10 113 rfl) rfl
theorem q2406 : (Jvm.Cond.code ({ cls := "RoseProverbs", name := "rightByRule", desc := "(I)I" } : Jvm.MethodName) prog_1_method_55_code (2 : Nat) (Option.some Jvm.ClassFile.FieldType.int)) ∈ lw_all := lw_g (lw_at lw_m10 114 rfl) rfl
theorem q2407 : (Jvm.Cond.methodLink "RoseProverbs" (404 : Nat) ({ cls := "RoseProverbs", name := "rightIf", desc := "(III)I" } : Jvm.MethodName)) ∈ lw_all := lw_g (lw_at lw_m10 115 rfl) rfl
theorem q2408 : (Jvm.Cond.privateMethod ({ cls := "RoseProverbs", name := "rightIf", desc := "(III)I" } : Jvm.MethodName)) ∈ lw_tbl := lw_at lw_m10 116 rfl
theorem q2409 : (Jvm.Cond.instanceMethod ({ cls := "RoseProverbs", name := "rightIf", desc := "(III)I" } : Jvm.MethodName)) ∈ lw_all := lw_g (lw_at lw_m10 117 rfl) rfl
theorem q2410 : (Jvm.Cond.code ({ cls := "RoseProverbs", name := "rightIf", desc := "(III)I" } : Jvm.MethodName) prog_1_method_54_code (6 : Nat) (Option.some Jvm.ClassFile.FieldType.int)) ∈ lw_all := lw_g (lw_at lw_m10 118 rfl) rfl
theorem q2411 : (Jvm.Cond.methodLink "RoseProverbs" (390 : Nat) ({ cls := "RoseProverbs", name := "think", desc := "()LRoseProverbs$Rose;" } : Jvm.MethodName)) ∈ lw_all := lw_g (lw_at lw_m10 119 rfl) rfl
theorem q2412 : (Jvm.Cond.privateMethod ({ cls := "RoseProverbs", name := "think", desc := "()LRoseProverbs$Rose;" } : Jvm.MethodName)) ∈ lw_tbl := lw_at lw_m10 120 rfl
theorem q2413 : (Jvm.Cond.instanceMethod ({ cls := "RoseProverbs", name := "think", desc := "()LRoseProverbs$Rose;" } : Jvm.MethodName)) ∈ lw_all := lw_g (lw_at lw_m10 121 rfl) rfl
theorem q2414 : (Jvm.Cond.code ({ cls := "RoseProverbs", name := "think", desc := "()LRoseProverbs$Rose;" } : Jvm.MethodName) prog_1_method_50_code (1 : Nat) (Option.some (Jvm.ClassFile.FieldType.object "RoseProverbs$Rose"))) ∈ lw_all := lw_g (lw_at lw_m10 122 rfl) rfl
theorem q2415 : (Jvm.Cond.methodLink "RoseProverbs" (377 : Nat) ({ cls := "RoseProverbs", name := "isAlike", desc := "()Z" } : Jvm.MethodName)) ∈ lw_all := lw_g (lw_at lw_m10 123 rfl) rfl
theorem q2416 : (Jvm.Cond.privateMethod ({ cls := "RoseProverbs", name := "isAlike", desc := "()Z" } : Jvm.MethodName)) ∈ lw_tbl := lw_at lw_m10 124 rfl
theorem q2417 : (Jvm.Cond.instanceMethod ({ cls := "RoseProverbs", name := "isAlike", desc := "()Z" } : Jvm.MethodName)) ∈ lw_all := lw_g (lw_at lw_m10 125 rfl) rfl
theorem q2418 : (Jvm.Cond.code ({ cls := "RoseProverbs", name := "isAlike", desc := "()Z" } : Jvm.MethodName) prog_1_method_51_code (3 : Nat) (Option.some Jvm.ClassFile.FieldType.boolean)) ∈ lw_all := lw_g (lw_at lw_m10 126 rfl) rfl
theorem q2419 : (Jvm.Cond.methodLink "RoseProverbs" (244 : Nat) ({ cls := "RoseProverbs$Rose", name := "proverb", desc := "(I)LRoseProverbs$Proverb;" } : Jvm.MethodName)) ∈ lw_all := lw_g (lw_at lw_m10 127 rfl) rfl
theorem q2420 : (Jvm.Cond.methodLink "RoseProverbs" (384 : Nat) ({ cls := "RoseProverbs$Proverb", name := "saying", desc := "()I" } : Jvm.MethodName)) ∈ lw_all := lw_g (lw_at lw_m10 128 rfl) rfl
theorem q2421 : (Jvm.Cond.methodLink "RoseProverbs" (380 : Nat) ({ cls := "RoseProverbs$Rose", name := "takes", desc := "(LRoseProverbs$Rose;)LRoseProverbs$Rose;" } : Jvm.MethodName)) ∈ lw_all := lw_g (lw_at lw_m10 129 rfl) rfl
theorem q2422 : (Jvm.Cond.methodLink "RoseProverbs" (398 : Nat) ({ cls := "RoseProverbs$Rose", name := "sets", desc := "(II)I" } : Jvm.MethodName)) ∈ lw_all := lw_g (lw_at lw_m10 130 rfl) rfl
theorem q2423 : (Jvm.Cond.methodLink "RoseProverbs" (401 : Nat) ({ cls := "RoseProverbs$Rose", name := "goesThrough", desc := "()I" } : Jvm.MethodName)) ∈ lw_all := lw_g (lw_at lw_m10 131 rfl) rfl
theorem q2427 : (Jvm.Cond.methodLink "RoseProverbs" (407 : Nat) ({ cls := "RoseProverbs", name := "bound", desc := "(I)I" } : Jvm.MethodName)) ∈ lw_all := lw_g (lw_at lw_m10 135 rfl) rfl
theorem q2429 : (Jvm.Cond.instanceMethod ({ cls := "RoseProverbs", name := "agree", desc := "()Z" } : Jvm.MethodName)) ∈ lw_all := lw_g (lw_at lw_m10 137 rfl) rfl
theorem q2430 : (Jvm.Cond.selects "RoseProverbs" ({ cls := "RoseProverbs", name := "agree", desc := "()Z" } : Jvm.MethodName) ({ cls := "RoseProverbs", name := "agree", desc := "()Z" } : Jvm.MethodName)) ∈ lw_all := lw_g (lw_at lw_m10 138 rfl) rfl
theorem q2431 : (Jvm.Cond.code ({ cls := "RoseProverbs", name := "agree", desc := "()Z" } : Jvm.MethodName) prog_1_method_66_code (1 : Nat) (Option.some Jvm.ClassFile.FieldType.boolean)) ∈ lw_all := lw_g (lw_at lw_m10 139 rfl) rfl
theorem q2432 : (Jvm.Cond.methodLink "RoseProverbs" (423 : Nat) ({ cls := "RoseProverbs", name := "areTold", desc := "()Z" } : Jvm.MethodName)) ∈ lw_all := lw_g (lw_at lw_m10 140 rfl) rfl
theorem q2433 : (Jvm.Cond.privateMethod ({ cls := "RoseProverbs", name := "areTold", desc := "()Z" } : Jvm.MethodName)) ∈ lw_tbl := lw_at lw_m10 141 rfl
theorem q2434 : (Jvm.Cond.instanceMethod ({ cls := "RoseProverbs", name := "areTold", desc := "()Z" } : Jvm.MethodName)) ∈ lw_all := lw_g (lw_at lw_m10 142 rfl) rfl
theorem q2435 : (Jvm.Cond.code ({ cls := "RoseProverbs", name := "areTold", desc := "()Z" } : Jvm.MethodName) prog_1_method_62_code (3 : Nat) (Option.some Jvm.ClassFile.FieldType.boolean)) ∈ lw_all := lw_g (lw_at lw_m10 143 rfl) rfl
theorem q2436 : (Jvm.Cond.methodLink "RoseProverbs" (199 : Nat) ({ cls := "RoseProverbs$Rose", name := "told", desc := "(II)I" } : Jvm.MethodName)) ∈ lw_all := lw_g (lw_at lw_m10 144 rfl) rfl
theorem q2437 : (Jvm.Cond.methodLink "RoseProverbs" (418 : Nat) ({ cls := "RoseProverbs", name := "toldAlone", desc := "(II)I" } : Jvm.MethodName)) ∈ lw_all := lw_g (lw_at lw_m10 145 rfl) rfl
theorem q2438 : (Jvm.Cond.privateMethod ({ cls := "RoseProverbs", name := "toldAlone", desc := "(II)I" } : Jvm.MethodName)) ∈ lw_tbl := lw_at lw_m10 146 rfl
theorem q2439 : (Jvm.Cond.instanceMethod ({ cls := "RoseProverbs", name := "toldAlone", desc := "(II)I" } : Jvm.MethodName)) ∈ lw_all := lw_g (lw_at lw_m10 147 rfl) rfl
theorem q2440 : (Jvm.Cond.code ({ cls := "RoseProverbs", name := "toldAlone", desc := "(II)I" } : Jvm.MethodName) prog_1_method_61_code (11 : Nat) (Option.some Jvm.ClassFile.FieldType.int)) ∈ lw_all := lw_g (lw_at lw_m10 148 rfl) rfl
theorem q2441 : (Jvm.Cond.methodLink "RoseProverbs" (290 : Nat) ({ cls := "RoseProverbs$Proverb", name := "speaks", desc := "(II)Z" } : Jvm.MethodName)) ∈ lw_all := lw_g (lw_at lw_m10 149 rfl) rfl
theorem q2442 : (Jvm.Cond.methodLink "RoseProverbs" (314 : Nat) ({ cls := "java/lang/Math", name := "max", desc := "(II)I" } : Jvm.MethodName)) ∈ lw_all := lw_g (lw_at lw_m10 150 rfl) rfl
theorem q2443 : (Jvm.Cond.methodLink "RoseProverbs" (426 : Nat) ({ cls := "RoseProverbs", name := "areProverbs", desc := "()Z" } : Jvm.MethodName)) ∈ lw_all := lw_g (lw_at lw_m10 151 rfl) rfl
theorem q2444 : (Jvm.Cond.privateMethod ({ cls := "RoseProverbs", name := "areProverbs", desc := "()Z" } : Jvm.MethodName)) ∈ lw_tbl := lw_at lw_m10 152 rfl
theorem q2445 : (Jvm.Cond.instanceMethod ({ cls := "RoseProverbs", name := "areProverbs", desc := "()Z" } : Jvm.MethodName)) ∈ lw_all := lw_g (lw_at lw_m10 153 rfl) rfl
theorem q2446 : (Jvm.Cond.code ({ cls := "RoseProverbs", name := "areProverbs", desc := "()Z" } : Jvm.MethodName) prog_1_method_63_code (5 : Nat) (Option.some Jvm.ClassFile.FieldType.boolean)) ∈ lw_all := lw_g (lw_at lw_m10 154 rfl) rfl
theorem q2447 : (Jvm.Cond.interfaceEntry "RoseProverbs" (164 : Nat)) ∈ lw_tbl := lw_at lw_m10 155 rfl
theorem q2448 : (Jvm.Cond.methodLink "RoseProverbs" (164 : Nat) ({ cls := "java/util/List", name := "iterator", desc := "()Ljava/util/Iterator;" } : Jvm.MethodName)) ∈ lw_all := lw_g (lw_at lw_m10 156 rfl) rfl
theorem q2452 : (Jvm.Cond.constantLong "RoseProverbs" (421 : Nat) (999 : Int64)) ∈ lw_all := lw_g (lw_at lw_m10 160 rfl) rfl
theorem q2453 : (Jvm.Cond.methodLink "RoseProverbs" (429 : Nat) ({ cls := "RoseProverbs", name := "arePairs", desc := "()Z" } : Jvm.MethodName)) ∈ lw_all := lw_g (lw_at lw_m10 161 rfl) rfl
theorem q2454 : (Jvm.Cond.privateMethod ({ cls := "RoseProverbs", name := "arePairs", desc := "()Z" } : Jvm.MethodName)) ∈ lw_tbl := lw_at lw_m10 162 rfl
theorem q2455 : (Jvm.Cond.instanceMethod ({ cls := "RoseProverbs", name := "arePairs", desc := "()Z" } : Jvm.MethodName)) ∈ lw_all := lw_g (lw_at lw_m10 163 rfl) rfl
theorem q2456 : (Jvm.Cond.code ({ cls := "RoseProverbs", name := "arePairs", desc := "()Z" } : Jvm.MethodName) prog_1_method_64_code (4 : Nat) (Option.some Jvm.ClassFile.FieldType.boolean)) ∈ lw_all := lw_g (lw_at lw_m10 164 rfl) rfl
theorem q2457 : (Jvm.Cond.methodLink "RoseProverbs" (432 : Nat) ({ cls := "RoseProverbs", name := "areScores", desc := "()Z" } : Jvm.MethodName)) ∈ lw_all := lw_g (lw_at lw_m10 165 rfl) rfl
theorem q2458 : (Jvm.Cond.privateMethod ({ cls := "RoseProverbs", name := "areScores", desc := "()Z" } : Jvm.MethodName)) ∈ lw_tbl := lw_at lw_m10 166 rfl
theorem q2459 : (Jvm.Cond.instanceMethod ({ cls := "RoseProverbs", name := "areScores", desc := "()Z" } : Jvm.MethodName)) ∈ lw_all := lw_g (lw_at lw_m10 167 rfl) rfl
theorem q2460 : (Jvm.Cond.code ({ cls := "RoseProverbs", name := "areScores", desc := "()Z" } : Jvm.MethodName) prog_1_method_65_code (3 : Nat) (Option.some Jvm.ClassFile.FieldType.boolean)) ∈ lw_all := lw_g (lw_at lw_m10 168 rfl) rfl
theorem q2462 : (Jvm.Cond.instanceMethod ({ cls := "RoseProverbs", name := "truth", desc := "()D" } : Jvm.MethodName)) ∈ lw_all := lw_g (lw_at lw_m10 170 rfl) rfl
theorem q2463 : (Jvm.Cond.selects "RoseProverbs" ({ cls := "RoseProverbs", name := "truth", desc := "()D" } : Jvm.MethodName) ({ cls := "RoseProverbs", name := "truth", desc := "()D" } : Jvm.MethodName)) ∈ lw_all := lw_g (lw_at lw_m10 171 rfl) rfl
theorem q2464 : (Jvm.Cond.code ({ cls := "RoseProverbs", name := "truth", desc := "()D" } : Jvm.MethodName) prog_1_method_67_code (2 : Nat) (Option.some Jvm.ClassFile.FieldType.double)) ∈ lw_all := lw_g (lw_at lw_m10 172 rfl) rfl
theorem q2466 : (Jvm.Cond.instanceMethod ({ cls := "RoseProverbs", name := "meanWeight", desc := "()F" } : Jvm.MethodName)) ∈ lw_all := lw_g (lw_at lw_m10 174 rfl) rfl
theorem q2467 : (Jvm.Cond.selects "RoseProverbs" ({ cls := "RoseProverbs", name := "meanWeight", desc := "()F" } : Jvm.MethodName) ({ cls := "RoseProverbs", name := "meanWeight", desc := "()F" } : Jvm.MethodName)) ∈ lw_all := lw_g (lw_at lw_m10 175 rfl) rfl
theorem q2468 : (Jvm.Cond.code ({ cls := "RoseProverbs", name := "meanWeight", desc := "()F" } : Jvm.MethodName) prog_1_method_68_code (1 : Nat) (Option.some Jvm.ClassFile.FieldType.float)) ∈ lw_all := lw_g (lw_at lw_m10 176 rfl) rfl
theorem q2469 : (Jvm.Cond.methodLink "RoseProverbs" (435 : Nat) ({ cls := "java/util/TreeMap", name := "isEmpty", desc := "()Z" } : Jvm.MethodName)) ∈ lw_all := lw_g (lw_at lw_m10 177 rfl) rfl
theorem q2480 : (Jvm.Cond.methodLink "RoseProverbs" (226 : Nat) ({ cls := "RoseProverbs", name := "weights", desc := "()I" } : Jvm.MethodName)) ∈ lw_all := lw_g (lw_at lw_m10 188 rfl) rfl
theorem q2481 : (Jvm.Cond.privateMethod ({ cls := "RoseProverbs", name := "weights", desc := "()I" } : Jvm.MethodName)) ∈ lw_tbl := lw_at lw_m10 189 rfl
theorem q2482 : (Jvm.Cond.instanceMethod ({ cls := "RoseProverbs", name := "weights", desc := "()I" } : Jvm.MethodName)) ∈ lw_all := lw_g (lw_at lw_m10 190 rfl) rfl
theorem q2483 : (Jvm.Cond.code ({ cls := "RoseProverbs", name := "weights", desc := "()I" } : Jvm.MethodName) prog_1_method_23_code (4 : Nat) (Option.some Jvm.ClassFile.FieldType.int)) ∈ lw_all := lw_g (lw_at lw_m10 191 rfl) rfl
theorem q2485 : (Jvm.Cond.instanceMethod ({ cls := "RoseProverbs", name := "outputByte", desc := "(I)I" } : Jvm.MethodName)) ∈ lw_all := lw_g (lw_at lw_m10 193 rfl) rfl
theorem q2486 : (Jvm.Cond.selects "RoseProverbs" ({ cls := "RoseProverbs", name := "outputByte", desc := "(I)I" } : Jvm.MethodName) ({ cls := "RoseProverbs", name := "outputByte", desc := "(I)I" } : Jvm.MethodName)) ∈ lw_all := lw_g (lw_at lw_m10 194 rfl) rfl
theorem q2487 : (Jvm.Cond.code ({ cls := "RoseProverbs", name := "outputByte", desc := "(I)I" } : Jvm.MethodName) prog_1_method_78_code (2 : Nat) (Option.some Jvm.ClassFile.FieldType.int)) ∈ lw_all := lw_g (lw_at lw_m10 195 rfl) rfl
theorem q2488 : (Jvm.Cond.methodLink "RoseProverbs" (475 : Nat) ({ cls := "java/lang/StringBuilder", name := "length", desc := "()I" } : Jvm.MethodName)) ∈ lw_all := lw_g (lw_at lw_m10 196 rfl) rfl
theorem q2489 : (Jvm.Cond.methodLink "RoseProverbs" (481 : Nat) ({ cls := "java/lang/StringBuilder", name := "charAt", desc := "(I)C" } : Jvm.MethodName)) ∈ lw_all := lw_g (lw_at lw_m10 197 rfl) rfl
theorem q2500 : (Jvm.Cond.instanceMethod ({ cls := "RoseProverbs", name := "saveState", desc := "()I" } : Jvm.MethodName)) ∈ lw_all := lw_g (lw_at lw_m10 208 rfl) rfl
theorem q2501 : (Jvm.Cond.selects "RoseProverbs" ({ cls := "RoseProverbs", name := "saveState", desc := "()I" } : Jvm.MethodName) ({ cls := "RoseProverbs", name := "saveState", desc := "()I" } : Jvm.MethodName)) ∈ lw_all := lw_g (lw_at lw_m10 209 rfl) rfl
theorem q2502 : (Jvm.Cond.code ({ cls := "RoseProverbs", name := "saveState", desc := "()I" } : Jvm.MethodName) prog_1_method_79_code (1 : Nat) (Option.some Jvm.ClassFile.FieldType.int)) ∈ lw_all := lw_g (lw_at lw_m10 210 rfl) rfl
theorem q2508 : (Jvm.Cond.instanceMethod ({ cls := "RoseProverbs", name := "count", desc := "(I)I" } : Jvm.MethodName)) ∈ lw_all := lw_g (lw_at lw_m10 216 rfl) rfl
theorem q2509 : (Jvm.Cond.selects "RoseProverbs" ({ cls := "RoseProverbs", name := "count", desc := "(I)I" } : Jvm.MethodName) ({ cls := "RoseProverbs", name := "count", desc := "(I)I" } : Jvm.MethodName)) ∈ lw_all := lw_g (lw_at lw_m10 217 rfl) rfl
theorem q2510 : (Jvm.Cond.code ({ cls := "RoseProverbs", name := "count", desc := "(I)I" } : Jvm.MethodName) prog_1_method_27_code (2 : Nat) (Option.some Jvm.ClassFile.FieldType.int)) ∈ lw_all := lw_g (lw_at lw_m10 218 rfl) rfl
theorem q2511 : (Jvm.Cond.constantLong "RoseProverbs" (203 : Nat) (5 : Int64)) ∈ lw_all := lw_g (lw_at lw_m10 219 rfl) rfl
theorem q2512 : (Jvm.Cond.constantLong "RoseProverbs" (205 : Nat) (7 : Int64)) ∈ lw_all := lw_g (lw_at lw_m10 220 rfl) rfl
theorem q2513 : (Jvm.Cond.methodLink "RoseProverbs" (220 : Nat) ({ cls := "RoseProverbs$Ring", name := "monthOf", desc := "(I)I" } : Jvm.MethodName)) ∈ lw_all := lw_g (lw_at lw_m10 221 rfl) rfl
theorem q2514 : (Jvm.Cond.methodLink "RoseProverbs" (229 : Nat) ({ cls := "RoseProverbs", name := "clashes", desc := "()I" } : Jvm.MethodName)) ∈ lw_all := lw_g (lw_at lw_m10 222 rfl) rfl
theorem q2515 : (Jvm.Cond.privateMethod ({ cls := "RoseProverbs", name := "clashes", desc := "()I" } : Jvm.MethodName)) ∈ lw_tbl := lw_at lw_m10 223 rfl
theorem q2516 : (Jvm.Cond.instanceMethod ({ cls := "RoseProverbs", name := "clashes", desc := "()I" } : Jvm.MethodName)) ∈ lw_all := lw_g (lw_at lw_m10 224 rfl) rfl
theorem q2517 : (Jvm.Cond.code ({ cls := "RoseProverbs", name := "clashes", desc := "()I" } : Jvm.MethodName) prog_1_method_25_code (4 : Nat) (Option.some Jvm.ClassFile.FieldType.int)) ∈ lw_all := lw_g (lw_at lw_m10 225 rfl) rfl
theorem q2518 : (Jvm.Cond.methodLink "RoseProverbs" (195 : Nat) ({ cls := "RoseProverbs", name := "clashesOf", desc := "(LRoseProverbs$Proverb;)I" } : Jvm.MethodName)) ∈ lw_all := lw_g (lw_at lw_m10 226 rfl) rfl
theorem q2519 : (Jvm.Cond.privateMethod ({ cls := "RoseProverbs", name := "clashesOf", desc := "(LRoseProverbs$Proverb;)I" } : Jvm.MethodName)) ∈ lw_tbl := lw_at lw_m10 227 rfl
theorem q2520 : (Jvm.Cond.instanceMethod ({ cls := "RoseProverbs", name := "clashesOf", desc := "(LRoseProverbs$Proverb;)I" } : Jvm.MethodName)) ∈ lw_all := lw_g (lw_at lw_m10 228 rfl) rfl
theorem q2521 : (Jvm.Cond.code ({ cls := "RoseProverbs", name := "clashesOf", desc := "(LRoseProverbs$Proverb;)I" } : Jvm.MethodName) prog_1_method_24_code (5 : Nat) (Option.some Jvm.ClassFile.FieldType.int)) ∈ lw_all := lw_g (lw_at lw_m10 229 rfl) rfl
theorem q2522 : (Jvm.Cond.methodLink "RoseProverbs" (187 : Nat) ({ cls := "RoseProverbs$Proverb", name := "clashes", desc := "(LRoseProverbs$Proverb;)Z" } : Jvm.MethodName)) ∈ lw_all := lw_g (lw_at lw_m10 230 rfl) rfl
theorem q2530 : (Jvm.Cond.methodLink "RoseProverbs" (191 : Nat) ({ cls := "RoseProverbs", name := "bit", desc := "(Z)I" } : Jvm.MethodName)) ∈ lw_all := lw_g (lw_at lw_m10 238 rfl) rfl
theorem q2531 : (Jvm.Cond.methodLink "RoseProverbs" (231 : Nat) ({ cls := "RoseProverbs", name := "silent", desc := "()I" } : Jvm.MethodName)) ∈ lw_all := lw_g (lw_at lw_m10 239 rfl) rfl
theorem q2532 : (Jvm.Cond.privateMethod ({ cls := "RoseProverbs", name := "silent", desc := "()I" } : Jvm.MethodName)) ∈ lw_tbl := lw_at lw_m11 0 rfl
theorem q2533 : (Jvm.Cond.instanceMethod ({ cls := "RoseProverbs", name := "silent", desc := "()I" } : Jvm.MethodName)) ∈ lw_all := lw_g (lw_at lw_m11 1 rfl) rfl
theorem q2534 : (Jvm.Cond.code ({ cls := "RoseProverbs", name := "silent", desc := "()I" } : Jvm.MethodName) prog_1_method_26_code (4 : Nat) (Option.some Jvm.ClassFile.FieldType.int)) ∈ lw_all := lw_g (lw_at lw_m11 2 rfl) rfl
theorem q2535 : (Jvm.Cond.classLink "RoseProverbs" (7 : Nat) "java/lang/IllegalArgumentException") ∈ lw_all := lw_g (lw_at lw_m11 3 rfl) rfl
theorem q2536 : (Jvm.Cond.methodLink "RoseProverbs" (9 : Nat) ({ cls := "java/lang/IllegalArgumentException", name := "<init>", desc := "()V" } : Jvm.MethodName)) ∈ lw_all := lw_g (lw_at lw_m11 4 rfl) rfl
theorem q2541 : (Jvm.Cond.instanceMethod ({ cls := "RoseProverbs", name := "account", desc := "(I)I" } : Jvm.MethodName)) ∈ lw_all := lw_g (lw_at lw_m11 9 rfl) rfl
theorem q2542 : (Jvm.Cond.selects "RoseProverbs" ({ cls := "RoseProverbs", name := "account", desc := "(I)I" } : Jvm.MethodName) ({ cls := "RoseProverbs", name := "account", desc := "(I)I" } : Jvm.MethodName)) ∈ lw_all := lw_g (lw_at lw_m11 10 rfl) rfl
theorem q2543 : (Jvm.Cond.code ({ cls := "RoseProverbs", name := "account", desc := "(I)I" } : Jvm.MethodName) prog_1_method_28_code (2 : Nat) (Option.some Jvm.ClassFile.FieldType.int)) ∈ lw_all := lw_g (lw_at lw_m11 11 rfl) rfl
theorem q2544 : (Jvm.Cond.constantLong "RoseProverbs" (235 : Nat) (8 : Int64)) ∈ lw_all := lw_g (lw_at lw_m11 12 rfl) rfl
theorem q2545 : (Jvm.Cond.methodLink "RoseProverbs" (237 : Nat) ({ cls := "RoseProverbs", name := "checkArgument", desc := "(Z)V" } : Jvm.MethodName)) ∈ lw_all := lw_g (lw_at lw_m11 13 rfl) rfl
theorem q2546 : (Jvm.Cond.static ({ cls := "RoseProverbs", name := "checkArgument", desc := "(Z)V" } : Jvm.MethodName)) ∈ lw_all := lw_g (lw_at lw_m11 14 rfl) rfl
theorem q2547 : (Jvm.Cond.code ({ cls := "RoseProverbs", name := "checkArgument", desc := "(Z)V" } : Jvm.MethodName) prog_1_method_3_code (1 : Nat) (Option.none : Option Jvm.ClassFile.FieldType)) ∈ lw_all := lw_g (lw_at lw_m11 15 rfl) rfl
theorem q2571 : (Jvm.Cond.instanceMethod ({ cls := "RoseProverbs", name := "proverb", desc := "(II)I" } : Jvm.MethodName)) ∈ lw_all := lw_g (lw_at lw_m11 39 rfl) rfl
theorem q2572 : (Jvm.Cond.selects "RoseProverbs" ({ cls := "RoseProverbs", name := "proverb", desc := "(II)I" } : Jvm.MethodName) ({ cls := "RoseProverbs", name := "proverb", desc := "(II)I" } : Jvm.MethodName)) ∈ lw_all := lw_g (lw_at lw_m11 40 rfl) rfl
theorem q2573 : (Jvm.Cond.code ({ cls := "RoseProverbs", name := "proverb", desc := "(II)I" } : Jvm.MethodName) prog_1_method_33_code (4 : Nat) (Option.some Jvm.ClassFile.FieldType.int)) ∈ lw_all := lw_g (lw_at lw_m11 41 rfl) rfl
theorem q2574 : (Jvm.Cond.methodLink "RoseProverbs" (254 : Nat) ({ cls := "RoseProverbs", name := "proverbAt", desc := "(I)LRoseProverbs$Proverb;" } : Jvm.MethodName)) ∈ lw_all := lw_g (lw_at lw_m11 42 rfl) rfl
theorem q2575 : (Jvm.Cond.privateMethod ({ cls := "RoseProverbs", name := "proverbAt", desc := "(I)LRoseProverbs$Proverb;" } : Jvm.MethodName)) ∈ lw_tbl := lw_at lw_m11 43 rfl
theorem q2576 : (Jvm.Cond.instanceMethod ({ cls := "RoseProverbs", name := "proverbAt", desc := "(I)LRoseProverbs$Proverb;" } : Jvm.MethodName)) ∈ lw_all := lw_g (lw_at lw_m11 44 rfl) rfl
theorem q2577 : (Jvm.Cond.code ({ cls := "RoseProverbs", name := "proverbAt", desc := "(I)LRoseProverbs$Proverb;" } : Jvm.MethodName) prog_1_method_29_code (2 : Nat) (Option.some (Jvm.ClassFile.FieldType.object "RoseProverbs$Proverb"))) ∈ lw_all := lw_g (lw_at lw_m11 45 rfl) rfl
theorem q2578 : (Jvm.Cond.methodLink "RoseProverbs" (241 : Nat) ({ cls := "RoseProverbs", name := "checkIndex", desc := "(Z)V" } : Jvm.MethodName)) ∈ lw_all := lw_g (lw_at lw_m11 46 rfl) rfl
theorem q2579 : (Jvm.Cond.static ({ cls := "RoseProverbs", name := "checkIndex", desc := "(Z)V" } : Jvm.MethodName)) ∈ lw_all := lw_g (lw_at lw_m11 47 rfl) rfl
theorem q2580 : (Jvm.Cond.code ({ cls := "RoseProverbs", name := "checkIndex", desc := "(Z)V" } : Jvm.MethodName) prog_1_method_2_code (1 : Nat) (Option.none : Option Jvm.ClassFile.FieldType)) ∈ lw_all := lw_g (lw_at lw_m11 48 rfl) rfl
theorem q2581 : (Jvm.Cond.classLink "RoseProverbs" (1 : Nat) "java/lang/IndexOutOfBoundsException") ∈ lw_all := lw_g (lw_at lw_m11 49 rfl) rfl
theorem q2590 : (Jvm.Cond.methodLink "RoseProverbs" (3 : Nat) ({ cls := "java/lang/IndexOutOfBoundsException", name := "<init>", desc := "()V" } : Jvm.MethodName)) ∈ lw_all := lw_g (lw_at lw_m11 58 rfl) rfl
theorem q2596 : (Jvm.Cond.methodLink "RoseProverbs" (280 : Nat) ({ cls := "RoseProverbs$Proverb", name := "points", desc := "()I" } : Jvm.MethodName)) ∈ lw_all := lw_g (lw_at lw_m11 64 rfl) rfl
theorem q2600 : (Jvm.Cond.methodLink "RoseProverbs" (283 : Nat) ({ cls := "RoseProverbs$Proverb", name := "months", desc := "()I" } : Jvm.MethodName)) ∈ lw_all := lw_g (lw_at lw_m11 68 rfl) rfl
theorem q2608 : (Jvm.Cond.instanceMethod ({ cls := "RoseProverbs", name := "speaks", desc := "(III)Z" } : Jvm.MethodName)) ∈ lw_all := lw_g (lw_at lw_m11 76 rfl) rfl
theorem q2609 : (Jvm.Cond.selects "RoseProverbs" ({ cls := "RoseProverbs", name := "speaks", desc := "(III)Z" } : Jvm.MethodName) ({ cls := "RoseProverbs", name := "speaks", desc := "(III)Z" } : Jvm.MethodName)) ∈ lw_all := lw_g (lw_at lw_m11 77 rfl) rfl
theorem q2610 : (Jvm.Cond.code ({ cls := "RoseProverbs", name := "speaks", desc := "(III)Z" } : Jvm.MethodName) prog_1_method_34_code (5 : Nat) (Option.some Jvm.ClassFile.FieldType.boolean)) ∈ lw_all := lw_g (lw_at lw_m11 78 rfl) rfl
theorem q2611 : (Jvm.Cond.methodLink "RoseProverbs" (286 : Nat) ({ cls := "RoseProverbs", name := "checkPlace", desc := "(II)V" } : Jvm.MethodName)) ∈ lw_all := lw_g (lw_at lw_m11 79 rfl) rfl
theorem q2612 : (Jvm.Cond.static ({ cls := "RoseProverbs", name := "checkPlace", desc := "(II)V" } : Jvm.MethodName)) ∈ lw_all := lw_g (lw_at lw_m11 80 rfl) rfl
theorem q2613 : (Jvm.Cond.code ({ cls := "RoseProverbs", name := "checkPlace", desc := "(II)V" } : Jvm.MethodName) prog_1_method_30_code (2 : Nat) (Option.none : Option Jvm.ClassFile.FieldType)) ∈ lw_all := lw_g (lw_at lw_m11 81 rfl) rfl
theorem q2614 : (Jvm.Cond.constantLong "RoseProverbs" (248 : Nat) (15 : Int64)) ∈ lw_all := lw_g (lw_at lw_m11 82 rfl) rfl
theorem q2615 : (Jvm.Cond.constantLong "RoseProverbs" (250 : Nat) (11 : Int64)) ∈ lw_all := lw_g (lw_at lw_m11 83 rfl) rfl
theorem q2620 : (Jvm.Cond.instanceMethod ({ cls := "RoseProverbs", name := "speakers", desc := "(II)I" } : Jvm.MethodName)) ∈ lw_all := lw_g (lw_at lw_m11 88 rfl) rfl
theorem q2621 : (Jvm.Cond.selects "RoseProverbs" ({ cls := "RoseProverbs", name := "speakers", desc := "(II)I" } : Jvm.MethodName) ({ cls := "RoseProverbs", name := "speakers", desc := "(II)I" } : Jvm.MethodName)) ∈ lw_all := lw_g (lw_at lw_m11 89 rfl) rfl
theorem q2622 : (Jvm.Cond.code ({ cls := "RoseProverbs", name := "speakers", desc := "(II)I" } : Jvm.MethodName) prog_1_method_35_code (6 : Nat) (Option.some Jvm.ClassFile.FieldType.int)) ∈ lw_all := lw_g (lw_at lw_m11 90 rfl) rfl
theorem q2623 : (Jvm.Cond.methodLink "RoseProverbs" (294 : Nat) ({ cls := "RoseProverbs$Rose", name := "speakers", desc := "(II)LRoseProverbs$Rose$Speakers;" } : Jvm.MethodName)) ∈ lw_all := lw_g (lw_at lw_m11 91 rfl) rfl
theorem q2646 : (Jvm.Cond.methodLink "RoseProverbs" (298 : Nat) ({ cls := "RoseProverbs$Rose$Speakers", name := "iterator", desc := "()Ljava/util/Iterator;" } : Jvm.MethodName)) ∈ lw_all := lw_g (lw_at lw_m11 114 rfl) rfl
theorem q2666 : (Jvm.Cond.instanceMethod ({ cls := "RoseProverbs", name := "speaker", desc := "(III)I" } : Jvm.MethodName)) ∈ lw_all := lw_g (lw_at lw_m11 134 rfl) rfl
theorem q2667 : (Jvm.Cond.selects "RoseProverbs" ({ cls := "RoseProverbs", name := "speaker", desc := "(III)I" } : Jvm.MethodName) ({ cls := "RoseProverbs", name := "speaker", desc := "(III)I" } : Jvm.MethodName)) ∈ lw_all := lw_g (lw_at lw_m11 135 rfl) rfl
theorem q2668 : (Jvm.Cond.code ({ cls := "RoseProverbs", name := "speaker", desc := "(III)I" } : Jvm.MethodName) prog_1_method_36_code (7 : Nat) (Option.some Jvm.ClassFile.FieldType.int)) ∈ lw_all := lw_g (lw_at lw_m11 136 rfl) rfl
theorem q2673 : (Jvm.Cond.instanceMethod ({ cls := "RoseProverbs", name := "voice", desc := "(III)I" } : Jvm.MethodName)) ∈ lw_all := lw_g (lw_at lw_m11 141 rfl) rfl
theorem q2674 : (Jvm.Cond.selects "RoseProverbs" ({ cls := "RoseProverbs", name := "voice", desc := "(III)I" } : Jvm.MethodName) ({ cls := "RoseProverbs", name := "voice", desc := "(III)I" } : Jvm.MethodName)) ∈ lw_all := lw_g (lw_at lw_m11 142 rfl) rfl
theorem q2675 : (Jvm.Cond.code ({ cls := "RoseProverbs", name := "voice", desc := "(III)I" } : Jvm.MethodName) prog_1_method_37_code (4 : Nat) (Option.some Jvm.ClassFile.FieldType.int)) ∈ lw_all := lw_g (lw_at lw_m11 143 rfl) rfl
theorem q2676 : (Jvm.Cond.methodLink "RoseProverbs" (304 : Nat) ({ cls := "RoseProverbs", name := "checkWeather", desc := "(I)V" } : Jvm.MethodName)) ∈ lw_all := lw_g (lw_at lw_m11 144 rfl) rfl
theorem q2677 : (Jvm.Cond.static ({ cls := "RoseProverbs", name := "checkWeather", desc := "(I)V" } : Jvm.MethodName)) ∈ lw_all := lw_g (lw_at lw_m11 145 rfl) rfl
theorem q2678 : (Jvm.Cond.code ({ cls := "RoseProverbs", name := "checkWeather", desc := "(I)V" } : Jvm.MethodName) prog_1_method_32_code (1 : Nat) (Option.none : Option Jvm.ClassFile.FieldType)) ∈ lw_all := lw_g (lw_at lw_m11 146 rfl) rfl
theorem q2679 : (Jvm.Cond.constantLong "RoseProverbs" (252 : Nat) (4 : Int64)) ∈ lw_all := lw_g (lw_at lw_m11 147 rfl) rfl
theorem q2680 : (Jvm.Cond.methodLink "RoseProverbs" (307 : Nat) ({ cls := "RoseProverbs$Rose", name := "voice", desc := "(III)I" } : Jvm.MethodName)) ∈ lw_all := lw_g (lw_at lw_m11 148 rfl) rfl
theorem q2688 : (Jvm.Cond.instanceMethod ({ cls := "RoseProverbs", name := "told", desc := "(II)I" } : Jvm.MethodName)) ∈ lw_all := lw_g (lw_at lw_m11 156 rfl) rfl
theorem q2689 : (Jvm.Cond.selects "RoseProverbs" ({ cls := "RoseProverbs", name := "told", desc := "(II)I" } : Jvm.MethodName) ({ cls := "RoseProverbs", name := "told", desc := "(II)I" } : Jvm.MethodName)) ∈ lw_all := lw_g (lw_at lw_m11 157 rfl) rfl
theorem q2690 : (Jvm.Cond.code ({ cls := "RoseProverbs", name := "told", desc := "(II)I" } : Jvm.MethodName) prog_1_method_38_code (3 : Nat) (Option.some Jvm.ClassFile.FieldType.int)) ∈ lw_all := lw_g (lw_at lw_m11 158 rfl) rfl
theorem q2695 : (Jvm.Cond.instanceMethod ({ cls := "RoseProverbs", name := "lead", desc := "(II)I" } : Jvm.MethodName)) ∈ lw_all := lw_g (lw_at lw_m11 163 rfl) rfl
theorem q2696 : (Jvm.Cond.selects "RoseProverbs" ({ cls := "RoseProverbs", name := "lead", desc := "(II)I" } : Jvm.MethodName) ({ cls := "RoseProverbs", name := "lead", desc := "(II)I" } : Jvm.MethodName)) ∈ lw_all := lw_g (lw_at lw_m11 164 rfl) rfl
theorem q2697 : (Jvm.Cond.code ({ cls := "RoseProverbs", name := "lead", desc := "(II)I" } : Jvm.MethodName) prog_1_method_39_code (6 : Nat) (Option.some Jvm.ClassFile.FieldType.int)) ∈ lw_all := lw_g (lw_at lw_m11 165 rfl) rfl
theorem q2698 : (Jvm.Cond.methodLinkNest "RoseProverbs" (311 : Nat) ({ cls := "RoseProverbs$Rose", name := "gathered", desc := "(I)I" } : Jvm.MethodName) "RoseProverbs") ∈ lw_tbl := lw_at lw_m11 166 rfl
theorem q2703 : (Jvm.Cond.instanceMethod ({ cls := "RoseProverbs", name := "why", desc := "(IIII)I" } : Jvm.MethodName)) ∈ lw_all := lw_g (lw_at lw_m11 171 rfl) rfl
theorem q2704 : (Jvm.Cond.selects "RoseProverbs" ({ cls := "RoseProverbs", name := "why", desc := "(IIII)I" } : Jvm.MethodName) ({ cls := "RoseProverbs", name := "why", desc := "(IIII)I" } : Jvm.MethodName)) ∈ lw_all := lw_g (lw_at lw_m11 172 rfl) rfl
theorem q2705 : (Jvm.Cond.code ({ cls := "RoseProverbs", name := "why", desc := "(IIII)I" } : Jvm.MethodName) prog_1_method_41_code (7 : Nat) (Option.some Jvm.ClassFile.FieldType.int)) ∈ lw_all := lw_g (lw_at lw_m11 173 rfl) rfl
theorem q2706 : (Jvm.Cond.constantLong "RoseProverbs" (322 : Nat) (2 : Int64)) ∈ lw_all := lw_g (lw_at lw_m11 174 rfl) rfl
theorem q2707 : (Jvm.Cond.methodLink "RoseProverbs" (324 : Nat) ({ cls := "RoseProverbs", name := "reason", desc := "(II)I" } : Jvm.MethodName)) ∈ lw_all := lw_g (lw_at lw_m11 175 rfl) rfl
theorem q2708 : (Jvm.Cond.privateMethod ({ cls := "RoseProverbs", name := "reason", desc := "(II)I" } : Jvm.MethodName)) ∈ lw_tbl := lw_at lw_m11 176 rfl
theorem q2709 : (Jvm.Cond.instanceMethod ({ cls := "RoseProverbs", name := "reason", desc := "(II)I" } : Jvm.MethodName)) ∈ lw_all := lw_g (lw_at lw_m11 177 rfl) rfl
theorem q2710 : (Jvm.Cond.code ({ cls := "RoseProverbs", name := "reason", desc := "(II)I" } : Jvm.MethodName) prog_1_method_40_code (3 : Nat) (Option.some Jvm.ClassFile.FieldType.int)) ∈ lw_all := lw_g (lw_at lw_m11 178 rfl) rfl
theorem q2711 : (Jvm.Cond.methodLink "RoseProverbs" (327 : Nat) ({ cls := "java/lang/Math", name := "min", desc := "(II)I" } : Jvm.MethodName)) ∈ lw_all := lw_g (lw_at lw_m11 179 rfl) rfl
theorem q2716 : (Jvm.Cond.instanceMethod ({ cls := "RoseProverbs", name := "clash", desc := "(II)Z" } : Jvm.MethodName)) ∈ lw_all := lw_g (lw_at lw_m11 184 rfl) rfl
theorem q2717 : (Jvm.Cond.selects "RoseProverbs" ({ cls := "RoseProverbs", name := "clash", desc := "(II)Z" } : Jvm.MethodName) ({ cls := "RoseProverbs", name := "clash", desc := "(II)Z" } : Jvm.MethodName)) ∈ lw_all := lw_g (lw_at lw_m11 185 rfl) rfl
theorem q2718 : (Jvm.Cond.code ({ cls := "RoseProverbs", name := "clash", desc := "(II)Z" } : Jvm.MethodName) prog_1_method_42_code (4 : Nat) (Option.some Jvm.ClassFile.FieldType.boolean)) ∈ lw_all := lw_g (lw_at lw_m11 186 rfl) rfl
theorem q2723 : (Jvm.Cond.instanceMethod ({ cls := "RoseProverbs", name := "met", desc := "(II)I" } : Jvm.MethodName)) ∈ lw_all := lw_g (lw_at lw_m11 191 rfl) rfl
theorem q2724 : (Jvm.Cond.selects "RoseProverbs" ({ cls := "RoseProverbs", name := "met", desc := "(II)I" } : Jvm.MethodName) ({ cls := "RoseProverbs", name := "met", desc := "(II)I" } : Jvm.MethodName)) ∈ lw_all := lw_g (lw_at lw_m11 192 rfl) rfl
theorem q2725 : (Jvm.Cond.code ({ cls := "RoseProverbs", name := "met", desc := "(II)I" } : Jvm.MethodName) prog_1_method_44_code (3 : Nat) (Option.some Jvm.ClassFile.FieldType.int)) ∈ lw_all := lw_g (lw_at lw_m11 193 rfl) rfl
theorem q2726 : (Jvm.Cond.methodLink "RoseProverbs" (334 : Nat) ({ cls := "RoseProverbs", name := "pair", desc := "(II)I" } : Jvm.MethodName)) ∈ lw_all := lw_g (lw_at lw_m11 194 rfl) rfl
theorem q2727 : (Jvm.Cond.privateMethod ({ cls := "RoseProverbs", name := "pair", desc := "(II)I" } : Jvm.MethodName)) ∈ lw_tbl := lw_at lw_m11 195 rfl
theorem q2728 : (Jvm.Cond.instanceMethod ({ cls := "RoseProverbs", name := "pair", desc := "(II)I" } : Jvm.MethodName)) ∈ lw_all := lw_g (lw_at lw_m11 196 rfl) rfl
theorem q2729 : (Jvm.Cond.code ({ cls := "RoseProverbs", name := "pair", desc := "(II)I" } : Jvm.MethodName) prog_1_method_43_code (3 : Nat) (Option.some Jvm.ClassFile.FieldType.int)) ∈ lw_all := lw_g (lw_at lw_m11 197 rfl) rfl
theorem q2734 : (Jvm.Cond.instanceMethod ({ cls := "RoseProverbs", name := "beat", desc := "(II)I" } : Jvm.MethodName)) ∈ lw_all := lw_g (lw_at lw_m11 202 rfl) rfl
theorem q2735 : (Jvm.Cond.selects "RoseProverbs" ({ cls := "RoseProverbs", name := "beat", desc := "(II)I" } : Jvm.MethodName) ({ cls := "RoseProverbs", name := "beat", desc := "(II)I" } : Jvm.MethodName)) ∈ lw_all := lw_g (lw_at lw_m11 203 rfl) rfl
theorem q2736 : (Jvm.Cond.code ({ cls := "RoseProverbs", name := "beat", desc := "(II)I" } : Jvm.MethodName) prog_1_method_45_code (3 : Nat) (Option.some Jvm.ClassFile.FieldType.int)) ∈ lw_all := lw_g (lw_at lw_m11 204 rfl) rfl
theorem q2741 : (Jvm.Cond.instanceMethod ({ cls := "RoseProverbs", name := "rival", desc := "(I)I" } : Jvm.MethodName)) ∈ lw_all := lw_g (lw_at lw_m11 209 rfl) rfl
theorem q2742 : (Jvm.Cond.selects "RoseProverbs" ({ cls := "RoseProverbs", name := "rival", desc := "(I)I" } : Jvm.MethodName) ({ cls := "RoseProverbs", name := "rival", desc := "(I)I" } : Jvm.MethodName)) ∈ lw_all := lw_g (lw_at lw_m11 210 rfl) rfl
theorem q2743 : (Jvm.Cond.code ({ cls := "RoseProverbs", name := "rival", desc := "(I)I" } : Jvm.MethodName) prog_1_method_46_code (7 : Nat) (Option.some Jvm.ClassFile.FieldType.int)) ∈ lw_all := lw_g (lw_at lw_m11 211 rfl) rfl
theorem q2748 : (Jvm.Cond.instanceMethod ({ cls := "RoseProverbs", name := "year", desc := "(II)I" } : Jvm.MethodName)) ∈ lw_all := lw_g (lw_at lw_m11 216 rfl) rfl
theorem q2749 : (Jvm.Cond.selects "RoseProverbs" ({ cls := "RoseProverbs", name := "year", desc := "(II)I" } : Jvm.MethodName) ({ cls := "RoseProverbs", name := "year", desc := "(II)I" } : Jvm.MethodName)) ∈ lw_all := lw_g (lw_at lw_m11 217 rfl) rfl
theorem q2750 : (Jvm.Cond.code ({ cls := "RoseProverbs", name := "year", desc := "(II)I" } : Jvm.MethodName) prog_1_method_48_code (3 : Nat) (Option.some Jvm.ClassFile.FieldType.int)) ∈ lw_all := lw_g (lw_at lw_m11 218 rfl) rfl
theorem q2751 : (Jvm.Cond.constantLong "RoseProverbs" (364 : Nat) (3 : Int64)) ∈ lw_all := lw_g (lw_at lw_m11 219 rfl) rfl
theorem q2756 : (Jvm.Cond.instanceMethod ({ cls := "RoseProverbs", name := "dayOf", desc := "(II)I" } : Jvm.MethodName)) ∈ lw_all := lw_g (lw_at lw_m11 224 rfl) rfl
theorem q2757 : (Jvm.Cond.selects "RoseProverbs" ({ cls := "RoseProverbs", name := "dayOf", desc := "(II)I" } : Jvm.MethodName) ({ cls := "RoseProverbs", name := "dayOf", desc := "(II)I" } : Jvm.MethodName)) ∈ lw_all := lw_g (lw_at lw_m11 225 rfl) rfl
theorem q2758 : (Jvm.Cond.code ({ cls := "RoseProverbs", name := "dayOf", desc := "(II)I" } : Jvm.MethodName) prog_1_method_49_code (3 : Nat) (Option.some Jvm.ClassFile.FieldType.int)) ∈ lw_all := lw_g (lw_at lw_m11 226 rfl) rfl
theorem q2763 : (Jvm.Cond.instanceMethod ({ cls := "RoseProverbs", name := "turnsIn", desc := "(II)I" } : Jvm.MethodName)) ∈ lw_all := lw_g (lw_at lw_m11 231 rfl) rfl
theorem q2764 : (Jvm.Cond.selects "RoseProverbs" ({ cls := "RoseProverbs", name := "turnsIn", desc := "(II)I" } : Jvm.MethodName) ({ cls := "RoseProverbs", name := "turnsIn", desc := "(II)I" } : Jvm.MethodName)) ∈ lw_all := lw_g (lw_at lw_m11 232 rfl) rfl
theorem q2765 : (Jvm.Cond.code ({ cls := "RoseProverbs", name := "turnsIn", desc := "(II)I" } : Jvm.MethodName) prog_1_method_52_code (6 : Nat) (Option.some Jvm.ClassFile.FieldType.int)) ∈ lw_all := lw_g (lw_at lw_m11 233 rfl) rfl
theorem q2766 : (Jvm.Cond.methodLink "RoseProverbs" (387 : Nat) ({ cls := "RoseProverbs", name := "checkPoint", desc := "(I)V" } : Jvm.MethodName)) ∈ lw_all := lw_g (lw_at lw_m11 234 rfl) rfl
theorem q2767 : (Jvm.Cond.static ({ cls := "RoseProverbs", name := "checkPoint", desc := "(I)V" } : Jvm.MethodName)) ∈ lw_all := lw_g (lw_at lw_m11 235 rfl) rfl
theorem q2768 : (Jvm.Cond.code ({ cls := "RoseProverbs", name := "checkPoint", desc := "(I)V" } : Jvm.MethodName) prog_1_method_31_code (1 : Nat) (Option.none : Option Jvm.ClassFile.FieldType)) ∈ lw_all := lw_g (lw_at lw_m11 236 rfl) rfl
theorem q2769 : (Jvm.Cond.methodLink "RoseProverbs" (393 : Nat) ({ cls := "RoseProverbs$Rose", name := "lives", desc := "(II)I" } : Jvm.MethodName)) ∈ lw_all := lw_g (lw_at lw_m11 237 rfl) rfl
theorem q2774 : (Jvm.Cond.instanceMethod ({ cls := "RoseProverbs", name := "weightIn", desc := "(IIII)I" } : Jvm.MethodName)) ∈ lw_all := lw_g (lw_at lw_m12 2 rfl) rfl
theorem q2775 : (Jvm.Cond.selects "RoseProverbs" ({ cls := "RoseProverbs", name := "weightIn", desc := "(IIII)I" } : Jvm.MethodName) ({ cls := "RoseProverbs", name := "weightIn", desc := "(IIII)I" } : Jvm.MethodName)) ∈ lw_all := lw_g (lw_at lw_m12 3 rfl) rfl
theorem q2776 : (Jvm.Cond.code ({ cls := "RoseProverbs", name := "weightIn", desc := "(IIII)I" } : Jvm.MethodName) prog_1_method_53_code (9 : Nat) (Option.some Jvm.ClassFile.FieldType.int)) ∈ lw_all := lw_g (lw_at lw_m12 4 rfl) rfl
theorem q2777 : (Jvm.Cond.constantLong "RoseProverbs" (396 : Nat) (99 : Int64)) ∈ lw_all := lw_g (lw_at lw_m12 5 rfl) rfl
theorem q2782 : (Jvm.Cond.instanceMethod ({ cls := "RoseProverbs", name := "rightBy", desc := "(I)I" } : Jvm.MethodName)) ∈ lw_all := lw_g (lw_at lw_m12 10 rfl) rfl
theorem q2783 : (Jvm.Cond.selects "RoseProverbs" ({ cls := "RoseProverbs", name := "rightBy", desc := "(I)I" } : Jvm.MethodName) ({ cls := "RoseProverbs", name := "rightBy", desc := "(I)I" } : Jvm.MethodName)) ∈ lw_all := lw_g (lw_at lw_m12 11 rfl) rfl
theorem q2784 : (Jvm.Cond.code ({ cls := "RoseProverbs", name := "rightBy", desc := "(I)I" } : Jvm.MethodName) prog_1_method_56_code (2 : Nat) (Option.some Jvm.ClassFile.FieldType.int)) ∈ lw_all := lw_g (lw_at lw_m12 12 rfl) rfl
theorem q2789 : (Jvm.Cond.instanceMethod ({ cls := "RoseProverbs", name := "rightWith", desc := "(II)I" } : Jvm.MethodName)) ∈ lw_all := lw_g (lw_at lw_m12 17 rfl) rfl
theorem q2790 : (Jvm.Cond.selects "RoseProverbs" ({ cls := "RoseProverbs", name := "rightWith", desc := "(II)I" } : Jvm.MethodName) ({ cls := "RoseProverbs", name := "rightWith", desc := "(II)I" } : Jvm.MethodName)) ∈ lw_all := lw_g (lw_at lw_m12 18 rfl) rfl
theorem q2791 : (Jvm.Cond.code ({ cls := "RoseProverbs", name := "rightWith", desc := "(II)I" } : Jvm.MethodName) prog_1_method_58_code (3 : Nat) (Option.some Jvm.ClassFile.FieldType.int)) ∈ lw_all := lw_g (lw_at lw_m12 19 rfl) rfl
theorem q2792 : (Jvm.Cond.constantLong "RoseProverbs" (413 : Nat) (50 : Int64)) ∈ lw_all := lw_g (lw_at lw_m12 20 rfl) rfl
theorem q2797 : (Jvm.Cond.instanceMethod ({ cls := "RoseProverbs", name := "harmOf", desc := "(I)I" } : Jvm.MethodName)) ∈ lw_all := lw_g (lw_at lw_m12 25 rfl) rfl
theorem q2798 : (Jvm.Cond.selects "RoseProverbs" ({ cls := "RoseProverbs", name := "harmOf", desc := "(I)I" } : Jvm.MethodName) ({ cls := "RoseProverbs", name := "harmOf", desc := "(I)I" } : Jvm.MethodName)) ∈ lw_all := lw_g (lw_at lw_m12 26 rfl) rfl
theorem q2799 : (Jvm.Cond.code ({ cls := "RoseProverbs", name := "harmOf", desc := "(I)I" } : Jvm.MethodName) prog_1_method_59_code (5 : Nat) (Option.some Jvm.ClassFile.FieldType.int)) ∈ lw_all := lw_g (lw_at lw_m12 27 rfl) rfl
theorem q2804 : (Jvm.Cond.instanceMethod ({ cls := "RoseProverbs", name := "reachOf", desc := "(I)I" } : Jvm.MethodName)) ∈ lw_all := lw_g (lw_at lw_m12 32 rfl) rfl
theorem q2805 : (Jvm.Cond.selects "RoseProverbs" ({ cls := "RoseProverbs", name := "reachOf", desc := "(I)I" } : Jvm.MethodName) ({ cls := "RoseProverbs", name := "reachOf", desc := "(I)I" } : Jvm.MethodName)) ∈ lw_all := lw_g (lw_at lw_m12 33 rfl) rfl
theorem q2806 : (Jvm.Cond.code ({ cls := "RoseProverbs", name := "reachOf", desc := "(I)I" } : Jvm.MethodName) prog_1_method_60_code (6 : Nat) (Option.some Jvm.ClassFile.FieldType.int)) ∈ lw_all := lw_g (lw_at lw_m12 34 rfl) rfl
theorem q2807 : (Jvm.Cond.methodLink "RoseProverbs" (415 : Nat) ({ cls := "RoseProverbs$Rose", name := "toldWithout", desc := "(III)I" } : Jvm.MethodName)) ∈ lw_all := lw_g (lw_at lw_m12 35 rfl) rfl
theorem q2813 : (Jvm.Cond.instanceMethod ({ cls := "RoseProverbs", name := "day", desc := "(II)I" } : Jvm.MethodName)) ∈ lw_all := lw_g (lw_at lw_m12 41 rfl) rfl
theorem q2814 : (Jvm.Cond.selects "RoseProverbs" ({ cls := "RoseProverbs", name := "day", desc := "(II)I" } : Jvm.MethodName) ({ cls := "RoseProverbs", name := "day", desc := "(II)I" } : Jvm.MethodName)) ∈ lw_all := lw_g (lw_at lw_m12 42 rfl) rfl
theorem q2815 : (Jvm.Cond.code ({ cls := "RoseProverbs", name := "day", desc := "(II)I" } : Jvm.MethodName) prog_1_method_70_code (3 : Nat) (Option.some Jvm.ClassFile.FieldType.int)) ∈ lw_all := lw_g (lw_at lw_m12 43 rfl) rfl
theorem q2816 : (Jvm.Cond.methodLink "RoseProverbs" (445 : Nat) ({ cls := "RoseProverbs", name := "checkState", desc := "(Z)V" } : Jvm.MethodName)) ∈ lw_all := lw_g (lw_at lw_m12 44 rfl) rfl
theorem q2817 : (Jvm.Cond.static ({ cls := "RoseProverbs", name := "checkState", desc := "(Z)V" } : Jvm.MethodName)) ∈ lw_all := lw_g (lw_at lw_m12 45 rfl) rfl
theorem q2818 : (Jvm.Cond.code ({ cls := "RoseProverbs", name := "checkState", desc := "(Z)V" } : Jvm.MethodName) prog_1_method_4_code (1 : Nat) (Option.none : Option Jvm.ClassFile.FieldType)) ∈ lw_all := lw_g (lw_at lw_m12 46 rfl) rfl
theorem q2819 : (Jvm.Cond.classLink "RoseProverbs" (10 : Nat) "java/lang/IllegalStateException") ∈ lw_all := lw_g (lw_at lw_m12 47 rfl) rfl
theorem q2820 : (Jvm.Cond.methodLink "RoseProverbs" (12 : Nat) ({ cls := "java/lang/IllegalStateException", name := "<init>", desc := "()V" } : Jvm.MethodName)) ∈ lw_all := lw_g (lw_at lw_m12 48 rfl) rfl
theorem q2828 : (Jvm.Cond.instanceMethod ({ cls := "RoseProverbs", name := "proverbNew", desc := "(IIIIII)I" } : Jvm.MethodName)) ∈ lw_all := lw_g (lw_at lw_m12 56 rfl) rfl
theorem q2829 : (Jvm.Cond.selects "RoseProverbs" ({ cls := "RoseProverbs", name := "proverbNew", desc := "(IIIIII)I" } : Jvm.MethodName) ({ cls := "RoseProverbs", name := "proverbNew", desc := "(IIIIII)I" } : Jvm.MethodName)) ∈ lw_all := lw_g (lw_at lw_m12 57 rfl) rfl
theorem q2830 : (Jvm.Cond.code ({ cls := "RoseProverbs", name := "proverbNew", desc := "(IIIIII)I" } : Jvm.MethodName) prog_1_method_71_code (8 : Nat) (Option.some Jvm.ClassFile.FieldType.int)) ∈ lw_all := lw_g (lw_at lw_m12 58 rfl) rfl
theorem q2831 : (Jvm.Cond.methodLink "RoseProverbs" (448 : Nat) ({ cls := "RoseProverbs", name := "mayCome", desc := "(LRoseProverbs$Rose;[I)Z" } : Jvm.MethodName)) ∈ lw_all := lw_g (lw_at lw_m12 59 rfl) rfl
theorem q2832 : (Jvm.Cond.methodLink "RoseProverbs" (452 : Nat) ({ cls := "RoseProverbs", name := "comes", desc := "(LRoseProverbs$Rose;[I)I" } : Jvm.MethodName)) ∈ lw_all := lw_g (lw_at lw_m12 60 rfl) rfl
theorem q2837 : (Jvm.Cond.instanceMethod ({ cls := "RoseProverbs", name := "forget", desc := "(I)I" } : Jvm.MethodName)) ∈ lw_all := lw_g (lw_at lw_m12 65 rfl) rfl
theorem q2838 : (Jvm.Cond.selects "RoseProverbs" ({ cls := "RoseProverbs", name := "forget", desc := "(I)I" } : Jvm.MethodName) ({ cls := "RoseProverbs", name := "forget", desc := "(I)I" } : Jvm.MethodName)) ∈ lw_all := lw_g (lw_at lw_m12 66 rfl) rfl
theorem q2839 : (Jvm.Cond.code ({ cls := "RoseProverbs", name := "forget", desc := "(I)I" } : Jvm.MethodName) prog_1_method_72_code (2 : Nat) (Option.some Jvm.ClassFile.FieldType.int)) ∈ lw_all := lw_g (lw_at lw_m12 67 rfl) rfl
theorem q2840 : (Jvm.Cond.methodLink "RoseProverbs" (455 : Nat) ({ cls := "RoseProverbs$Rose", name := "forgets", desc := "(I)I" } : Jvm.MethodName)) ∈ lw_all := lw_g (lw_at lw_m12 68 rfl) rfl
theorem q2845 : (Jvm.Cond.instanceMethod ({ cls := "RoseProverbs", name := "weigh", desc := "(II)I" } : Jvm.MethodName)) ∈ lw_all := lw_g (lw_at lw_m12 73 rfl) rfl
theorem q2846 : (Jvm.Cond.selects "RoseProverbs" ({ cls := "RoseProverbs", name := "weigh", desc := "(II)I" } : Jvm.MethodName) ({ cls := "RoseProverbs", name := "weigh", desc := "(II)I" } : Jvm.MethodName)) ∈ lw_all := lw_g (lw_at lw_m12 74 rfl) rfl
theorem q2847 : (Jvm.Cond.code ({ cls := "RoseProverbs", name := "weigh", desc := "(II)I" } : Jvm.MethodName) prog_1_method_73_code (4 : Nat) (Option.some Jvm.ClassFile.FieldType.int)) ∈ lw_all := lw_g (lw_at lw_m12 75 rfl) rfl
theorem q2848 : (Jvm.Cond.methodLink "RoseProverbs" (458 : Nat) ({ cls := "RoseProverbs$Rose", name := "weighs", desc := "(II)I" } : Jvm.MethodName)) ∈ lw_all := lw_g (lw_at lw_m12 76 rfl) rfl
theorem q2853 : (Jvm.Cond.instanceMethod ({ cls := "RoseProverbs", name := "set", desc := "(II)I" } : Jvm.MethodName)) ∈ lw_all := lw_g (lw_at lw_m12 81 rfl) rfl
theorem q2854 : (Jvm.Cond.selects "RoseProverbs" ({ cls := "RoseProverbs", name := "set", desc := "(II)I" } : Jvm.MethodName) ({ cls := "RoseProverbs", name := "set", desc := "(II)I" } : Jvm.MethodName)) ∈ lw_all := lw_g (lw_at lw_m12 82 rfl) rfl
theorem q2855 : (Jvm.Cond.code ({ cls := "RoseProverbs", name := "set", desc := "(II)I" } : Jvm.MethodName) prog_1_method_74_code (4 : Nat) (Option.some Jvm.ClassFile.FieldType.int)) ∈ lw_all := lw_g (lw_at lw_m12 83 rfl) rfl
theorem q2861 : (Jvm.Cond.instanceMethod ({ cls := "RoseProverbs", name := "undo", desc := "()I" } : Jvm.MethodName)) ∈ lw_all := lw_g (lw_at lw_m12 89 rfl) rfl
theorem q2862 : (Jvm.Cond.selects "RoseProverbs" ({ cls := "RoseProverbs", name := "undo", desc := "()I" } : Jvm.MethodName) ({ cls := "RoseProverbs", name := "undo", desc := "()I" } : Jvm.MethodName)) ∈ lw_all := lw_g (lw_at lw_m12 90 rfl) rfl
theorem q2863 : (Jvm.Cond.code ({ cls := "RoseProverbs", name := "undo", desc := "()I" } : Jvm.MethodName) prog_1_method_75_code (1 : Nat) (Option.some Jvm.ClassFile.FieldType.int)) ∈ lw_all := lw_g (lw_at lw_m12 91 rfl) rfl
theorem q2864 : (Jvm.Cond.methodLink "RoseProverbs" (461 : Nat) ({ cls := "java/util/ArrayDeque", name := "isEmpty", desc := "()Z" } : Jvm.MethodName)) ∈ lw_all := lw_g (lw_at lw_m12 92 rfl) rfl
theorem q2865 : (Jvm.Cond.methodLink "RoseProverbs" (462 : Nat) ({ cls := "RoseProverbs", name := "checkElement", desc := "(Z)V" } : Jvm.MethodName)) ∈ lw_all := lw_g (lw_at lw_m12 93 rfl) rfl
theorem q2866 : (Jvm.Cond.methodLink "RoseProverbs" (465 : Nat) ({ cls := "java/util/ArrayDeque", name := "removeLast", desc := "()Ljava/lang/Object;" } : Jvm.MethodName)) ∈ lw_all := lw_g (lw_at lw_m12 94 rfl) rfl
theorem q2881 : (Jvm.Cond.instanceMethod ({ cls := "RoseProverbs", name := "printMonth", desc := "(I)I" } : Jvm.MethodName)) ∈ lw_all := lw_g (lw_at lw_m12 109 rfl) rfl
theorem q2882 : (Jvm.Cond.selects "RoseProverbs" ({ cls := "RoseProverbs", name := "printMonth", desc := "(I)I" } : Jvm.MethodName) ({ cls := "RoseProverbs", name := "printMonth", desc := "(I)I" } : Jvm.MethodName)) ∈ lw_all := lw_g (lw_at lw_m12 110 rfl) rfl
theorem q2883 : (Jvm.Cond.code ({ cls := "RoseProverbs", name := "printMonth", desc := "(I)I" } : Jvm.MethodName) prog_1_method_76_code (4 : Nat) (Option.some Jvm.ClassFile.FieldType.int)) ∈ lw_all := lw_g (lw_at lw_m12 111 rfl) rfl
theorem q2884 : (Jvm.Cond.methodLink "RoseProverbs" (468 : Nat) ({ cls := "java/lang/StringBuilder", name := "setLength", desc := "(I)V" } : Jvm.MethodName)) ∈ lw_all := lw_g (lw_at lw_m12 112 rfl) rfl
theorem q2936 : (Jvm.Cond.methodLink "RoseProverbs" (471 : Nat) ({ cls := "java/lang/StringBuilder", name := "append", desc := "(C)Ljava/lang/StringBuilder;" } : Jvm.MethodName)) ∈ lw_all := lw_g (lw_at lw_m12 164 rfl) rfl
theorem q2941 : (Jvm.Cond.instanceMethod ({ cls := "RoseProverbs", name := "printProverb", desc := "(I)I" } : Jvm.MethodName)) ∈ lw_all := lw_g (lw_at lw_m12 169 rfl) rfl
theorem q2942 : (Jvm.Cond.selects "RoseProverbs" ({ cls := "RoseProverbs", name := "printProverb", desc := "(I)I" } : Jvm.MethodName) ({ cls := "RoseProverbs", name := "printProverb", desc := "(I)I" } : Jvm.MethodName)) ∈ lw_all := lw_g (lw_at lw_m12 170 rfl) rfl
theorem q2943 : (Jvm.Cond.code ({ cls := "RoseProverbs", name := "printProverb", desc := "(I)I" } : Jvm.MethodName) prog_1_method_77_code (3 : Nat) (Option.some Jvm.ClassFile.FieldType.int)) ∈ lw_all := lw_g (lw_at lw_m12 171 rfl) rfl
theorem q2944 : (Jvm.Cond.methodLink "RoseProverbs" (478 : Nat) ({ cls := "java/lang/StringBuilder", name := "append", desc := "(I)Ljava/lang/StringBuilder;" } : Jvm.MethodName)) ∈ lw_all := lw_g (lw_at lw_m12 172 rfl) rfl
theorem q2949 : (Jvm.Cond.instanceMethod ({ cls := "RoseProverbs", name := "restoreState", desc := "()I" } : Jvm.MethodName)) ∈ lw_all := lw_g (lw_at lw_m12 177 rfl) rfl
theorem q2950 : (Jvm.Cond.selects "RoseProverbs" ({ cls := "RoseProverbs", name := "restoreState", desc := "()I" } : Jvm.MethodName) ({ cls := "RoseProverbs", name := "restoreState", desc := "()I" } : Jvm.MethodName)) ∈ lw_all := lw_g (lw_at lw_m12 178 rfl) rfl
theorem q2951 : (Jvm.Cond.code ({ cls := "RoseProverbs", name := "restoreState", desc := "()I" } : Jvm.MethodName) prog_1_method_80_code (1 : Nat) (Option.some Jvm.ClassFile.FieldType.int)) ∈ lw_all := lw_g (lw_at lw_m12 179 rfl) rfl
theorem q3590 : (Jvm.Cond.castable "RoseProverbs" "java/lang/Object") ∈ lw_tbl := lw_at lw_m15 98 rfl
theorem in_X1 : ∀ w ∈ wsX10, w ∈ lw_all := lw_in wsX10 [1214, 1216, 1218, 1220, 1222, 1224, 1226, 1228, 1230] (by decide +kernel) (by decide +kernel)
/-! RoseProverbs$Rose -/
set_option maxRecDepth 100000
def RX2 : String := "RoseProverbs$Rose"
def TX2 : u_T := fun k => match k with
  | 0 => ("RoseProverbs$Rose", "proverbs", "Ljava/util/List;", true)
  | 1 => ("RoseProverbs$Rose", "bySaying", "Ljava/util/TreeMap;", true)
  | 2 => ("RoseProverbs$Rose", "settings", "[I", true)
  | 3 => ("RoseProverbs$Rose", "accounts", "[I", true)
  | 4 => ("RoseProverbs$Rose", "scores", "[I", true)
  | 5 => ("RoseProverbs$Rose", "met", "[S", true)
  | 6 => ("RoseProverbs$Rose", "beat", "[S", true)
  | 7 => ("RoseProverbs$Rose", "winds", "[B", true)
  | 8 => ("RoseProverbs$Rose", "came", "[B", true)
  | 9 => ("RoseProverbs$Rose", "told", "[B", true)
  | 10 => ("RoseProverbs$Rose", "sums", "[I", true)
  | 11 => ("RoseProverbs$Rose", "most", "[I", true)
  | 12 => ("RoseProverbs$Rose", "many", "[I", true)
  | _ => ("RoseProverbs$Rose", "day", "I", false)
def tyX2 : Nat → FieldType := fun k => match k with
  | 0 => .object "java/util/List"
  | 1 => .object "java/util/TreeMap"
  | 2 => .array .int
  | 3 => .array .int
  | 4 => .array .int
  | 5 => .array .short
  | 6 => .array .short
  | 7 => .array .byte
  | 8 => .array .byte
  | 9 => .array .byte
  | 10 => .array .int
  | 11 => .array .int
  | 12 => .array .int
  | _ => .int
abbrev wsX20 : List Cond := u_ws RX2 TX2 14
set_option maxRecDepth 100000 in
theorem nmX2 : ∀ a, a < 14 → ∀ b, b < 14 → a ≠ b → (TX2 a).2.1 ≠ (TX2 b).2.1 := by decide +kernel
set_option maxRecDepth 100000 in
theorem tyX2_ok : ∀ k, k < 14 → parseFieldDescriptor (TX2 k).2.2.1 = some (tyX2 k) := by decide +kernel
abbrev cX2_init : ByteArray := prog_8_method_1_code
def yX2_init : MethodName := ⟨RX2, "<init>", "()V"⟩
def dkwX2_init_5 : List UInt8 := [42, 8, 188, 10, 181, 0, 57, 42, 8, 188, 10, 181, 0, 60, 177]
abbrev dktX2_init_5 : List UInt8 := dkwX2_init_5 ++ []
def dkwX2_init_4 : List UInt8 := [17, 2, 208, 188, 8, 181, 0, 48, 42, 17, 2, 208, 188, 8, 181, 0, 51, 42, 8, 188, 10, 181, 0, 54]
abbrev dktX2_init_4 : List UInt8 := dkwX2_init_4 ++ dktX2_init_5
def dkwX2_init_3 : List UInt8 := [188, 9, 181, 0, 37, 42, 17, 2, 64, 188, 9, 181, 0, 41, 42, 17, 2, 208, 188, 8, 181, 0, 44, 42]
abbrev dktX2_init_3 : List UInt8 := dkwX2_init_3 ++ dktX2_init_4
def dkwX2_init_2 : List UInt8 := [181, 0, 27, 42, 16, 9, 188, 10, 181, 0, 31, 42, 16, 8, 188, 10, 181, 0, 34, 42, 17, 2, 64]
abbrev dktX2_init_2 : List UInt8 := dkwX2_init_2 ++ dktX2_init_3
def dkwX2_init_1 : List UInt8 := [183, 0, 22, 181, 0, 23, 42, 6, 188, 10, 89, 3, 3, 79, 89, 4, 16, 10, 79, 89, 5, 16, 20, 79]
abbrev dktX2_init_1 : List UInt8 := dkwX2_init_1 ++ dktX2_init_2
def dkwX2_init_0 : List UInt8 := [42, 183, 0, 3, 42, 187, 0, 9, 89, 16, 24, 183, 0, 11, 181, 0, 14, 42, 187, 0, 20, 89]
abbrev dktX2_init_0 : List UInt8 := dkwX2_init_0 ++ dktX2_init_1
theorem dksX2_init_0 : cX2_init.data.toList.drop 0 = dktX2_init_0 := by decide +kernel
theorem dksX2_init_1 : cX2_init.data.toList.drop 22 = dktX2_init_1 := dk_seg dksX2_init_0 22 rfl rfl
theorem dksX2_init_2 : cX2_init.data.toList.drop 46 = dktX2_init_2 := dk_seg dksX2_init_1 24 rfl rfl
theorem dksX2_init_3 : cX2_init.data.toList.drop 69 = dktX2_init_3 := dk_seg dksX2_init_2 23 rfl rfl
theorem dksX2_init_4 : cX2_init.data.toList.drop 93 = dktX2_init_4 := dk_seg dksX2_init_3 24 rfl rfl
theorem dksX2_init_5 : cX2_init.data.toList.drop 117 = dktX2_init_5 := dk_seg dksX2_init_4 24 rfl rfl
theorem dX2_init_0 : decode cX2_init 0 = .ok (.aload_n 0, 1) := dk_42 (dk_at dksX2_init_0 0 rfl rfl)
theorem dX2_init_1 : decode cX2_init 1 = .ok (.invokespecial 3, 3) := dk_183 0 3 (dk_at dksX2_init_0 1 rfl rfl)
theorem dX2_init_4 : decode cX2_init 4 = .ok (.aload_n 0, 1) := dk_42 (dk_at dksX2_init_0 4 rfl rfl)
theorem dX2_init_5 : decode cX2_init 5 = .ok (.new 9, 3) := dk_187 0 9 (dk_at dksX2_init_0 5 rfl rfl)
theorem dX2_init_8 : decode cX2_init 8 = .ok (.dup, 1) := dk_89 (dk_at dksX2_init_0 8 rfl rfl)
theorem dX2_init_9 : decode cX2_init 9 = .ok (.bipush 24, 2) := dk_16 24 (dk_at dksX2_init_0 9 rfl rfl)
theorem dX2_init_11 : decode cX2_init 11 = .ok (.invokespecial 11, 3) := dk_183 0 11 (dk_at dksX2_init_0 11 rfl rfl)
theorem dX2_init_14 : decode cX2_init 14 = .ok (.putfield 14, 3) := dk_181 0 14 (dk_at dksX2_init_0 14 rfl rfl)
theorem dX2_init_17 : decode cX2_init 17 = .ok (.aload_n 0, 1) := dk_42 (dk_at dksX2_init_0 17 rfl rfl)
theorem dX2_init_18 : decode cX2_init 18 = .ok (.new 20, 3) := dk_187 0 20 (dk_at dksX2_init_0 18 rfl rfl)
theorem dX2_init_21 : decode cX2_init 21 = .ok (.dup, 1) := dk_89 (dk_at dksX2_init_0 21 rfl rfl)
theorem dX2_init_22 : decode cX2_init 22 = .ok (.invokespecial 22, 3) := dk_183 0 22 (dk_at dksX2_init_1 0 rfl rfl)
theorem dX2_init_25 : decode cX2_init 25 = .ok (.putfield 23, 3) := dk_181 0 23 (dk_at dksX2_init_1 3 rfl rfl)
theorem dX2_init_28 : decode cX2_init 28 = .ok (.aload_n 0, 1) := dk_42 (dk_at dksX2_init_1 6 rfl rfl)
theorem dX2_init_29 : decode cX2_init 29 = .ok (.iconst 3, 1) := dk_6 (dk_at dksX2_init_1 7 rfl rfl)
theorem dX2_init_30 : decode cX2_init 30 = .ok (.newarray .int, 2) := dk_188_10 (dk_at dksX2_init_1 8 rfl rfl)
theorem dX2_init_32 : decode cX2_init 32 = .ok (.dup, 1) := dk_89 (dk_at dksX2_init_1 10 rfl rfl)
theorem dX2_init_33 : decode cX2_init 33 = .ok (.iconst 0, 1) := dk_3 (dk_at dksX2_init_1 11 rfl rfl)
theorem dX2_init_34 : decode cX2_init 34 = .ok (.iconst 0, 1) := dk_3 (dk_at dksX2_init_1 12 rfl rfl)
theorem dX2_init_35 : decode cX2_init 35 = .ok (.iastore, 1) := dk_79 (dk_at dksX2_init_1 13 rfl rfl)
theorem dX2_init_36 : decode cX2_init 36 = .ok (.dup, 1) := dk_89 (dk_at dksX2_init_1 14 rfl rfl)
theorem dX2_init_37 : decode cX2_init 37 = .ok (.iconst 1, 1) := dk_4 (dk_at dksX2_init_1 15 rfl rfl)
theorem dX2_init_38 : decode cX2_init 38 = .ok (.bipush 10, 2) := dk_16 10 (dk_at dksX2_init_1 16 rfl rfl)
theorem dX2_init_40 : decode cX2_init 40 = .ok (.iastore, 1) := dk_79 (dk_at dksX2_init_1 18 rfl rfl)
theorem dX2_init_41 : decode cX2_init 41 = .ok (.dup, 1) := dk_89 (dk_at dksX2_init_1 19 rfl rfl)
theorem dX2_init_42 : decode cX2_init 42 = .ok (.iconst 2, 1) := dk_5 (dk_at dksX2_init_1 20 rfl rfl)
theorem dX2_init_43 : decode cX2_init 43 = .ok (.bipush 20, 2) := dk_16 20 (dk_at dksX2_init_1 21 rfl rfl)
theorem dX2_init_45 : decode cX2_init 45 = .ok (.iastore, 1) := dk_79 (dk_at dksX2_init_1 23 rfl rfl)
theorem dX2_init_46 : decode cX2_init 46 = .ok (.putfield 27, 3) := dk_181 0 27 (dk_at dksX2_init_2 0 rfl rfl)
theorem dX2_init_49 : decode cX2_init 49 = .ok (.aload_n 0, 1) := dk_42 (dk_at dksX2_init_2 3 rfl rfl)
theorem dX2_init_50 : decode cX2_init 50 = .ok (.bipush 9, 2) := dk_16 9 (dk_at dksX2_init_2 4 rfl rfl)
theorem dX2_init_52 : decode cX2_init 52 = .ok (.newarray .int, 2) := dk_188_10 (dk_at dksX2_init_2 6 rfl rfl)
theorem dX2_init_54 : decode cX2_init 54 = .ok (.putfield 31, 3) := dk_181 0 31 (dk_at dksX2_init_2 8 rfl rfl)
theorem dX2_init_57 : decode cX2_init 57 = .ok (.aload_n 0, 1) := dk_42 (dk_at dksX2_init_2 11 rfl rfl)
theorem dX2_init_58 : decode cX2_init 58 = .ok (.bipush 8, 2) := dk_16 8 (dk_at dksX2_init_2 12 rfl rfl)
theorem dX2_init_60 : decode cX2_init 60 = .ok (.newarray .int, 2) := dk_188_10 (dk_at dksX2_init_2 14 rfl rfl)
theorem dX2_init_62 : decode cX2_init 62 = .ok (.putfield 34, 3) := dk_181 0 34 (dk_at dksX2_init_2 16 rfl rfl)
theorem dX2_init_65 : decode cX2_init 65 = .ok (.aload_n 0, 1) := dk_42 (dk_at dksX2_init_2 19 rfl rfl)
theorem dX2_init_66 : decode cX2_init 66 = .ok (.sipush 576, 3) := dk_17 2 64 (dk_at dksX2_init_2 20 rfl rfl)
theorem dX2_init_69 : decode cX2_init 69 = .ok (.newarray .short, 2) := dk_188_9 (dk_at dksX2_init_3 0 rfl rfl)
theorem dX2_init_71 : decode cX2_init 71 = .ok (.putfield 37, 3) := dk_181 0 37 (dk_at dksX2_init_3 2 rfl rfl)
theorem dX2_init_74 : decode cX2_init 74 = .ok (.aload_n 0, 1) := dk_42 (dk_at dksX2_init_3 5 rfl rfl)
theorem dX2_init_75 : decode cX2_init 75 = .ok (.sipush 576, 3) := dk_17 2 64 (dk_at dksX2_init_3 6 rfl rfl)
theorem dX2_init_78 : decode cX2_init 78 = .ok (.newarray .short, 2) := dk_188_9 (dk_at dksX2_init_3 9 rfl rfl)
theorem dX2_init_80 : decode cX2_init 80 = .ok (.putfield 41, 3) := dk_181 0 41 (dk_at dksX2_init_3 11 rfl rfl)
theorem dX2_init_83 : decode cX2_init 83 = .ok (.aload_n 0, 1) := dk_42 (dk_at dksX2_init_3 14 rfl rfl)
theorem dX2_init_84 : decode cX2_init 84 = .ok (.sipush 720, 3) := dk_17 2 208 (dk_at dksX2_init_3 15 rfl rfl)
theorem dX2_init_87 : decode cX2_init 87 = .ok (.newarray .byte, 2) := dk_188_8 (dk_at dksX2_init_3 18 rfl rfl)
theorem dX2_init_89 : decode cX2_init 89 = .ok (.putfield 44, 3) := dk_181 0 44 (dk_at dksX2_init_3 20 rfl rfl)
theorem dX2_init_92 : decode cX2_init 92 = .ok (.aload_n 0, 1) := dk_42 (dk_at dksX2_init_3 23 rfl rfl)
theorem dX2_init_93 : decode cX2_init 93 = .ok (.sipush 720, 3) := dk_17 2 208 (dk_at dksX2_init_4 0 rfl rfl)
theorem dX2_init_96 : decode cX2_init 96 = .ok (.newarray .byte, 2) := dk_188_8 (dk_at dksX2_init_4 3 rfl rfl)
theorem dX2_init_98 : decode cX2_init 98 = .ok (.putfield 48, 3) := dk_181 0 48 (dk_at dksX2_init_4 5 rfl rfl)
theorem dX2_init_101 : decode cX2_init 101 = .ok (.aload_n 0, 1) := dk_42 (dk_at dksX2_init_4 8 rfl rfl)
theorem dX2_init_102 : decode cX2_init 102 = .ok (.sipush 720, 3) := dk_17 2 208 (dk_at dksX2_init_4 9 rfl rfl)
theorem dX2_init_105 : decode cX2_init 105 = .ok (.newarray .byte, 2) := dk_188_8 (dk_at dksX2_init_4 12 rfl rfl)
theorem dX2_init_107 : decode cX2_init 107 = .ok (.putfield 51, 3) := dk_181 0 51 (dk_at dksX2_init_4 14 rfl rfl)
theorem dX2_init_110 : decode cX2_init 110 = .ok (.aload_n 0, 1) := dk_42 (dk_at dksX2_init_4 17 rfl rfl)
theorem dX2_init_111 : decode cX2_init 111 = .ok (.iconst 5, 1) := dk_8 (dk_at dksX2_init_4 18 rfl rfl)
theorem dX2_init_112 : decode cX2_init 112 = .ok (.newarray .int, 2) := dk_188_10 (dk_at dksX2_init_4 19 rfl rfl)
theorem dX2_init_114 : decode cX2_init 114 = .ok (.putfield 54, 3) := dk_181 0 54 (dk_at dksX2_init_4 21 rfl rfl)
theorem dX2_init_117 : decode cX2_init 117 = .ok (.aload_n 0, 1) := dk_42 (dk_at dksX2_init_5 0 rfl rfl)
theorem dX2_init_118 : decode cX2_init 118 = .ok (.iconst 5, 1) := dk_8 (dk_at dksX2_init_5 1 rfl rfl)
theorem dX2_init_119 : decode cX2_init 119 = .ok (.newarray .int, 2) := dk_188_10 (dk_at dksX2_init_5 2 rfl rfl)
theorem dX2_init_121 : decode cX2_init 121 = .ok (.putfield 57, 3) := dk_181 0 57 (dk_at dksX2_init_5 4 rfl rfl)
theorem dX2_init_124 : decode cX2_init 124 = .ok (.aload_n 0, 1) := dk_42 (dk_at dksX2_init_5 7 rfl rfl)
theorem dX2_init_125 : decode cX2_init 125 = .ok (.iconst 5, 1) := dk_8 (dk_at dksX2_init_5 8 rfl rfl)
theorem dX2_init_126 : decode cX2_init 126 = .ok (.newarray .int, 2) := dk_188_10 (dk_at dksX2_init_5 9 rfl rfl)
theorem dX2_init_128 : decode cX2_init 128 = .ok (.putfield 60, 3) := dk_181 0 60 (dk_at dksX2_init_5 11 rfl rfl)
theorem dX2_init_131 : decode cX2_init 131 = .ok (.return_, 1) := dk_177 (dk_at dksX2_init_5 14 rfl rfl)
abbrev cX2_comes : ByteArray := prog_8_method_6_code
def yX2_comes : MethodName := ⟨RX2, "comes", "([I)I"⟩
def dkwX2_comes_0 : List UInt8 := [42, 187, 0, 70, 89, 42, 180, 0, 14, 185, 0, 64, 1, 0, 43, 183, 0, 133, 182, 0, 79, 172]
abbrev dktX2_comes_0 : List UInt8 := dkwX2_comes_0 ++ []
theorem dksX2_comes_0 : cX2_comes.data.toList.drop 0 = dktX2_comes_0 := by decide +kernel
theorem dX2_comes_0 : decode cX2_comes 0 = .ok (.aload_n 0, 1) := dk_42 (dk_at dksX2_comes_0 0 rfl rfl)
theorem dX2_comes_1 : decode cX2_comes 1 = .ok (.new 70, 3) := dk_187 0 70 (dk_at dksX2_comes_0 1 rfl rfl)
theorem dX2_comes_4 : decode cX2_comes 4 = .ok (.dup, 1) := dk_89 (dk_at dksX2_comes_0 4 rfl rfl)
theorem dX2_comes_5 : decode cX2_comes 5 = .ok (.aload_n 0, 1) := dk_42 (dk_at dksX2_comes_0 5 rfl rfl)
theorem dX2_comes_6 : decode cX2_comes 6 = .ok (.getfield 14, 3) := dk_180 0 14 (dk_at dksX2_comes_0 6 rfl rfl)
theorem dX2_comes_9 : decode cX2_comes 9 = .ok (.invokeinterface 64 1, 5) := by decide +kernel
theorem dX2_comes_14 : decode cX2_comes 14 = .ok (.aload_n 1, 1) := dk_43 (dk_at dksX2_comes_0 14 rfl rfl)
theorem dX2_comes_15 : decode cX2_comes 15 = .ok (.invokespecial 133, 3) := dk_183 0 133 (dk_at dksX2_comes_0 15 rfl rfl)
theorem dX2_comes_18 : decode cX2_comes 18 = .ok (.invokevirtual 79, 3) := dk_182 0 79 (dk_at dksX2_comes_0 18 rfl rfl)
theorem dX2_comes_21 : decode cX2_comes 21 = .ok (.ireturn, 1) := dk_172 (dk_at dksX2_comes_0 21 rfl rfl)
abbrev cX2_adds : ByteArray := prog_8_method_5_code
def yX2_adds : MethodName := ⟨RX2, "adds", "(LRoseProverbs$Proverb;)I"⟩
def dkwX2_adds_1 : List UInt8 := [182, 0, 117, 184, 0, 120, 43, 182, 0, 126, 192, 0, 70, 78, 43, 180, 0, 130, 172]
abbrev dktX2_adds_1 : List UInt8 := dkwX2_adds_1 ++ []
def dkwX2_adds_0 : List UInt8 := [42, 180, 0, 14, 43, 185, 0, 109, 2, 0, 61, 43, 180, 0, 113, 154, 0, 22, 42, 180, 0, 23, 43]
abbrev dktX2_adds_0 : List UInt8 := dkwX2_adds_0 ++ dktX2_adds_1
theorem dksX2_adds_0 : cX2_adds.data.toList.drop 0 = dktX2_adds_0 := by decide +kernel
theorem dksX2_adds_1 : cX2_adds.data.toList.drop 23 = dktX2_adds_1 := dk_seg dksX2_adds_0 23 rfl rfl
theorem dX2_adds_0 : decode cX2_adds 0 = .ok (.aload_n 0, 1) := dk_42 (dk_at dksX2_adds_0 0 rfl rfl)
theorem dX2_adds_1 : decode cX2_adds 1 = .ok (.getfield 14, 3) := dk_180 0 14 (dk_at dksX2_adds_0 1 rfl rfl)
theorem dX2_adds_4 : decode cX2_adds 4 = .ok (.aload_n 1, 1) := dk_43 (dk_at dksX2_adds_0 4 rfl rfl)
theorem dX2_adds_5 : decode cX2_adds 5 = .ok (.invokeinterface 109 2, 5) := by decide +kernel
theorem dX2_adds_10 : decode cX2_adds 10 = .ok (.istore_n 2, 1) := dk_61 (dk_at dksX2_adds_0 10 rfl rfl)
theorem dX2_adds_11 : decode cX2_adds 11 = .ok (.aload_n 1, 1) := dk_43 (dk_at dksX2_adds_0 11 rfl rfl)
theorem dX2_adds_12 : decode cX2_adds 12 = .ok (.getfield 113, 3) := dk_180 0 113 (dk_at dksX2_adds_0 12 rfl rfl)
theorem dX2_adds_15 : decode cX2_adds 15 = .ok (.ifCond .ne 22, 3) := dk_154 0 22 (dk_at dksX2_adds_0 15 rfl rfl)
theorem dX2_adds_18 : decode cX2_adds 18 = .ok (.aload_n 0, 1) := dk_42 (dk_at dksX2_adds_0 18 rfl rfl)
theorem dX2_adds_19 : decode cX2_adds 19 = .ok (.getfield 23, 3) := dk_180 0 23 (dk_at dksX2_adds_0 19 rfl rfl)
theorem dX2_adds_22 : decode cX2_adds 22 = .ok (.aload_n 1, 1) := dk_43 (dk_at dksX2_adds_0 22 rfl rfl)
theorem dX2_adds_23 : decode cX2_adds 23 = .ok (.invokevirtual 117, 3) := dk_182 0 117 (dk_at dksX2_adds_1 0 rfl rfl)
theorem dX2_adds_26 : decode cX2_adds 26 = .ok (.invokestatic 120, 3) := dk_184 0 120 (dk_at dksX2_adds_1 3 rfl rfl)
theorem dX2_adds_29 : decode cX2_adds 29 = .ok (.aload_n 1, 1) := dk_43 (dk_at dksX2_adds_1 6 rfl rfl)
theorem dX2_adds_30 : decode cX2_adds 30 = .ok (.invokevirtual 126, 3) := dk_182 0 126 (dk_at dksX2_adds_1 7 rfl rfl)
theorem dX2_adds_33 : decode cX2_adds 33 = .ok (.checkcast 70, 3) := dk_192 0 70 (dk_at dksX2_adds_1 10 rfl rfl)
theorem dX2_adds_36 : decode cX2_adds 36 = .ok (.astore_n 3, 1) := dk_78 (dk_at dksX2_adds_1 13 rfl rfl)
theorem dX2_adds_37 : decode cX2_adds 37 = .ok (.aload_n 1, 1) := dk_43 (dk_at dksX2_adds_1 14 rfl rfl)
theorem dX2_adds_38 : decode cX2_adds 38 = .ok (.getfield 130, 3) := dk_180 0 130 (dk_at dksX2_adds_1 15 rfl rfl)
theorem dX2_adds_41 : decode cX2_adds 41 = .ok (.ireturn, 1) := dk_172 (dk_at dksX2_adds_1 18 rfl rfl)
abbrev cX2_twin : ByteArray := prog_8_method_2_code
def yX2_twin : MethodName := ⟨RX2, "twin", "()LRoseProverbs$Rose;"⟩
def dkwX2_twin_2 : List UInt8 := [182, 0, 83, 176]
abbrev dktX2_twin_2 : List UInt8 := dkwX2_twin_2 ++ []
def dkwX2_twin_1 : List UInt8 := [187, 0, 70, 89, 42, 28, 182, 0, 72, 183, 0, 76, 182, 0, 79, 62, 132, 2, 1, 167, 255, 223, 43, 42]
abbrev dktX2_twin_1 : List UInt8 := dkwX2_twin_1 ++ dktX2_twin_2
def dkwX2_twin_0 : List UInt8 := [187, 0, 15, 89, 183, 0, 63, 76, 3, 61, 28, 42, 180, 0, 14, 185, 0, 64, 1, 0, 162, 0, 26, 43]
abbrev dktX2_twin_0 : List UInt8 := dkwX2_twin_0 ++ dktX2_twin_1
theorem dksX2_twin_0 : cX2_twin.data.toList.drop 0 = dktX2_twin_0 := by decide +kernel
theorem dksX2_twin_1 : cX2_twin.data.toList.drop 24 = dktX2_twin_1 := dk_seg dksX2_twin_0 24 rfl rfl
theorem dksX2_twin_2 : cX2_twin.data.toList.drop 48 = dktX2_twin_2 := dk_seg dksX2_twin_1 24 rfl rfl
theorem dX2_twin_0 : decode cX2_twin 0 = .ok (.new 15, 3) := dk_187 0 15 (dk_at dksX2_twin_0 0 rfl rfl)
theorem dX2_twin_3 : decode cX2_twin 3 = .ok (.dup, 1) := dk_89 (dk_at dksX2_twin_0 3 rfl rfl)
theorem dX2_twin_4 : decode cX2_twin 4 = .ok (.invokespecial 63, 3) := dk_183 0 63 (dk_at dksX2_twin_0 4 rfl rfl)
theorem dX2_twin_7 : decode cX2_twin 7 = .ok (.astore_n 1, 1) := dk_76 (dk_at dksX2_twin_0 7 rfl rfl)
theorem dX2_twin_8 : decode cX2_twin 8 = .ok (.iconst 0, 1) := dk_3 (dk_at dksX2_twin_0 8 rfl rfl)
theorem dX2_twin_9 : decode cX2_twin 9 = .ok (.istore_n 2, 1) := dk_61 (dk_at dksX2_twin_0 9 rfl rfl)
theorem dX2_twin_10 : decode cX2_twin 10 = .ok (.iload_n 2, 1) := dk_28 (dk_at dksX2_twin_0 10 rfl rfl)
theorem dX2_twin_11 : decode cX2_twin 11 = .ok (.aload_n 0, 1) := dk_42 (dk_at dksX2_twin_0 11 rfl rfl)
theorem dX2_twin_12 : decode cX2_twin 12 = .ok (.getfield 14, 3) := dk_180 0 14 (dk_at dksX2_twin_0 12 rfl rfl)
theorem dX2_twin_15 : decode cX2_twin 15 = .ok (.invokeinterface 64 1, 5) := by decide +kernel
theorem dX2_twin_20 : decode cX2_twin 20 = .ok (.if_icmp .ge 26, 3) := dk_162 0 26 (dk_at dksX2_twin_0 20 rfl rfl)
theorem dX2_twin_23 : decode cX2_twin 23 = .ok (.aload_n 1, 1) := dk_43 (dk_at dksX2_twin_0 23 rfl rfl)
theorem dX2_twin_24 : decode cX2_twin 24 = .ok (.new 70, 3) := dk_187 0 70 (dk_at dksX2_twin_1 0 rfl rfl)
theorem dX2_twin_27 : decode cX2_twin 27 = .ok (.dup, 1) := dk_89 (dk_at dksX2_twin_1 3 rfl rfl)
theorem dX2_twin_28 : decode cX2_twin 28 = .ok (.aload_n 0, 1) := dk_42 (dk_at dksX2_twin_1 4 rfl rfl)
theorem dX2_twin_29 : decode cX2_twin 29 = .ok (.iload_n 2, 1) := dk_28 (dk_at dksX2_twin_1 5 rfl rfl)
theorem dX2_twin_30 : decode cX2_twin 30 = .ok (.invokevirtual 72, 3) := dk_182 0 72 (dk_at dksX2_twin_1 6 rfl rfl)
theorem dX2_twin_33 : decode cX2_twin 33 = .ok (.invokespecial 76, 3) := dk_183 0 76 (dk_at dksX2_twin_1 9 rfl rfl)
theorem dX2_twin_36 : decode cX2_twin 36 = .ok (.invokevirtual 79, 3) := dk_182 0 79 (dk_at dksX2_twin_1 12 rfl rfl)
theorem dX2_twin_39 : decode cX2_twin 39 = .ok (.istore_n 3, 1) := dk_62 (dk_at dksX2_twin_1 15 rfl rfl)
theorem dX2_twin_40 : decode cX2_twin 40 = .ok (.iinc 2 1, 3) := dk_132 2 1 (dk_at dksX2_twin_1 16 rfl rfl)
theorem dX2_twin_43 : decode cX2_twin 43 = .ok (.goto (-33), 3) := dk_167 255 223 (dk_at dksX2_twin_1 19 rfl rfl)
theorem dX2_twin_46 : decode cX2_twin 46 = .ok (.aload_n 1, 1) := dk_43 (dk_at dksX2_twin_1 22 rfl rfl)
theorem dX2_twin_47 : decode cX2_twin 47 = .ok (.aload_n 0, 1) := dk_42 (dk_at dksX2_twin_1 23 rfl rfl)
theorem dX2_twin_48 : decode cX2_twin 48 = .ok (.invokevirtual 83, 3) := dk_182 0 83 (dk_at dksX2_twin_2 0 rfl rfl)
theorem dX2_twin_51 : decode cX2_twin 51 = .ok (.areturn, 1) := dk_176 (dk_at dksX2_twin_2 3 rfl rfl)
abbrev cX2_proverb : ByteArray := prog_8_method_4_code
def yX2_proverb : MethodName := ⟨RX2, "proverb", "(I)LRoseProverbs$Proverb;"⟩
def dkwX2_proverb_0 : List UInt8 := [42, 180, 0, 14, 27, 185, 0, 105, 2, 0, 192, 0, 70, 176]
abbrev dktX2_proverb_0 : List UInt8 := dkwX2_proverb_0 ++ []
theorem dksX2_proverb_0 : cX2_proverb.data.toList.drop 0 = dktX2_proverb_0 := by decide +kernel
theorem dX2_proverb_0 : decode cX2_proverb 0 = .ok (.aload_n 0, 1) := dk_42 (dk_at dksX2_proverb_0 0 rfl rfl)
theorem dX2_proverb_1 : decode cX2_proverb 1 = .ok (.getfield 14, 3) := dk_180 0 14 (dk_at dksX2_proverb_0 1 rfl rfl)
theorem dX2_proverb_4 : decode cX2_proverb 4 = .ok (.iload_n 1, 1) := dk_27 (dk_at dksX2_proverb_0 4 rfl rfl)
theorem dX2_proverb_5 : decode cX2_proverb 5 = .ok (.invokeinterface 105 2, 5) := by decide +kernel
theorem dX2_proverb_10 : decode cX2_proverb 10 = .ok (.checkcast 70, 3) := dk_192 0 70 (dk_at dksX2_proverb_0 10 rfl rfl)
theorem dX2_proverb_13 : decode cX2_proverb 13 = .ok (.areturn, 1) := dk_176 (dk_at dksX2_proverb_0 13 rfl rfl)
abbrev cX2_takes : ByteArray := prog_8_method_3_code
def yX2_takes : MethodName := ⟨RX2, "takes", "(LRoseProverbs$Rose;)LRoseProverbs$Rose;"⟩
def dkwX2_takes_8 : List UInt8 := [181, 0, 95, 42, 176]
abbrev dktX2_takes_8 : List UInt8 := dkwX2_takes_8 ++ []
def dkwX2_takes_7 : List UInt8 := [180, 0, 51, 3, 43, 180, 0, 95, 17, 2, 208, 184, 0, 99, 184, 0, 89, 42, 43, 180, 0, 95]
abbrev dktX2_takes_7 : List UInt8 := dkwX2_takes_7 ++ dktX2_takes_8
def dkwX2_takes_6 : List UInt8 := [180, 0, 48, 3, 43, 180, 0, 95, 17, 2, 208, 184, 0, 99, 184, 0, 89, 43, 180, 0, 51, 3, 42]
abbrev dktX2_takes_6 : List UInt8 := dkwX2_takes_6 ++ dktX2_takes_7
def dkwX2_takes_5 : List UInt8 := [42, 180, 0, 44, 3, 43, 180, 0, 95, 17, 2, 208, 184, 0, 99, 184, 0, 89, 43, 180, 0, 48, 3, 42]
abbrev dktX2_takes_5 : List UInt8 := dkwX2_takes_5 ++ dktX2_takes_6
def dkwX2_takes_4 : List UInt8 := [184, 0, 89, 43, 180, 0, 41, 3, 42, 180, 0, 41, 3, 17, 2, 64, 184, 0, 89, 43, 180, 0, 44, 3]
abbrev dktX2_takes_4 : List UInt8 := dkwX2_takes_4 ++ dktX2_takes_5
def dkwX2_takes_3 : List UInt8 := [180, 0, 34, 3, 16, 8, 184, 0, 89, 43, 180, 0, 37, 3, 42, 180, 0, 37, 3, 17, 2, 64]
abbrev dktX2_takes_3 : List UInt8 := dkwX2_takes_3 ++ dktX2_takes_4
def dkwX2_takes_2 : List UInt8 := [184, 0, 89, 43, 180, 0, 31, 3, 42, 180, 0, 31, 3, 16, 9, 184, 0, 89, 43, 180, 0, 34, 3, 42]
abbrev dktX2_takes_2 : List UInt8 := dkwX2_takes_2 ++ dktX2_takes_3
def dkwX2_takes_1 : List UInt8 := [182, 0, 72, 182, 0, 87, 132, 2, 1, 167, 255, 227, 43, 180, 0, 27, 3, 42, 180, 0, 27, 3, 6]
abbrev dktX2_takes_1 : List UInt8 := dkwX2_takes_1 ++ dktX2_takes_2
def dkwX2_takes_0 : List UInt8 := [3, 61, 28, 42, 180, 0, 14, 185, 0, 64, 1, 0, 162, 0, 22, 42, 28, 182, 0, 72, 43, 28]
abbrev dktX2_takes_0 : List UInt8 := dkwX2_takes_0 ++ dktX2_takes_1
theorem dksX2_takes_0 : cX2_takes.data.toList.drop 0 = dktX2_takes_0 := by decide +kernel
theorem dksX2_takes_1 : cX2_takes.data.toList.drop 22 = dktX2_takes_1 := dk_seg dksX2_takes_0 22 rfl rfl
theorem dksX2_takes_2 : cX2_takes.data.toList.drop 45 = dktX2_takes_2 := dk_seg dksX2_takes_1 23 rfl rfl
theorem dksX2_takes_3 : cX2_takes.data.toList.drop 69 = dktX2_takes_3 := dk_seg dksX2_takes_2 24 rfl rfl
theorem dksX2_takes_4 : cX2_takes.data.toList.drop 91 = dktX2_takes_4 := dk_seg dksX2_takes_3 22 rfl rfl
theorem dksX2_takes_5 : cX2_takes.data.toList.drop 115 = dktX2_takes_5 := dk_seg dksX2_takes_4 24 rfl rfl
theorem dksX2_takes_6 : cX2_takes.data.toList.drop 139 = dktX2_takes_6 := dk_seg dksX2_takes_5 24 rfl rfl
theorem dksX2_takes_7 : cX2_takes.data.toList.drop 162 = dktX2_takes_7 := dk_seg dksX2_takes_6 23 rfl rfl
theorem dksX2_takes_8 : cX2_takes.data.toList.drop 184 = dktX2_takes_8 := dk_seg dksX2_takes_7 22 rfl rfl
theorem dX2_takes_0 : decode cX2_takes 0 = .ok (.iconst 0, 1) := dk_3 (dk_at dksX2_takes_0 0 rfl rfl)
theorem dX2_takes_1 : decode cX2_takes 1 = .ok (.istore_n 2, 1) := dk_61 (dk_at dksX2_takes_0 1 rfl rfl)
theorem dX2_takes_2 : decode cX2_takes 2 = .ok (.iload_n 2, 1) := dk_28 (dk_at dksX2_takes_0 2 rfl rfl)
theorem dX2_takes_3 : decode cX2_takes 3 = .ok (.aload_n 0, 1) := dk_42 (dk_at dksX2_takes_0 3 rfl rfl)
theorem dX2_takes_4 : decode cX2_takes 4 = .ok (.getfield 14, 3) := dk_180 0 14 (dk_at dksX2_takes_0 4 rfl rfl)
theorem dX2_takes_7 : decode cX2_takes 7 = .ok (.invokeinterface 64 1, 5) := by decide +kernel
theorem dX2_takes_12 : decode cX2_takes 12 = .ok (.if_icmp .ge 22, 3) := dk_162 0 22 (dk_at dksX2_takes_0 12 rfl rfl)
theorem dX2_takes_15 : decode cX2_takes 15 = .ok (.aload_n 0, 1) := dk_42 (dk_at dksX2_takes_0 15 rfl rfl)
theorem dX2_takes_16 : decode cX2_takes 16 = .ok (.iload_n 2, 1) := dk_28 (dk_at dksX2_takes_0 16 rfl rfl)
theorem dX2_takes_17 : decode cX2_takes 17 = .ok (.invokevirtual 72, 3) := dk_182 0 72 (dk_at dksX2_takes_0 17 rfl rfl)
theorem dX2_takes_20 : decode cX2_takes 20 = .ok (.aload_n 1, 1) := dk_43 (dk_at dksX2_takes_0 20 rfl rfl)
theorem dX2_takes_21 : decode cX2_takes 21 = .ok (.iload_n 2, 1) := dk_28 (dk_at dksX2_takes_0 21 rfl rfl)
theorem dX2_takes_22 : decode cX2_takes 22 = .ok (.invokevirtual 72, 3) := dk_182 0 72 (dk_at dksX2_takes_1 0 rfl rfl)
theorem dX2_takes_25 : decode cX2_takes 25 = .ok (.invokevirtual 87, 3) := dk_182 0 87 (dk_at dksX2_takes_1 3 rfl rfl)
theorem dX2_takes_28 : decode cX2_takes 28 = .ok (.iinc 2 1, 3) := dk_132 2 1 (dk_at dksX2_takes_1 6 rfl rfl)
theorem dX2_takes_31 : decode cX2_takes 31 = .ok (.goto (-29), 3) := dk_167 255 227 (dk_at dksX2_takes_1 9 rfl rfl)
theorem dX2_takes_34 : decode cX2_takes 34 = .ok (.aload_n 1, 1) := dk_43 (dk_at dksX2_takes_1 12 rfl rfl)
theorem dX2_takes_35 : decode cX2_takes 35 = .ok (.getfield 27, 3) := dk_180 0 27 (dk_at dksX2_takes_1 13 rfl rfl)
theorem dX2_takes_38 : decode cX2_takes 38 = .ok (.iconst 0, 1) := dk_3 (dk_at dksX2_takes_1 16 rfl rfl)
theorem dX2_takes_39 : decode cX2_takes 39 = .ok (.aload_n 0, 1) := dk_42 (dk_at dksX2_takes_1 17 rfl rfl)
theorem dX2_takes_40 : decode cX2_takes 40 = .ok (.getfield 27, 3) := dk_180 0 27 (dk_at dksX2_takes_1 18 rfl rfl)
theorem dX2_takes_43 : decode cX2_takes 43 = .ok (.iconst 0, 1) := dk_3 (dk_at dksX2_takes_1 21 rfl rfl)
theorem dX2_takes_44 : decode cX2_takes 44 = .ok (.iconst 3, 1) := dk_6 (dk_at dksX2_takes_1 22 rfl rfl)
theorem dX2_takes_45 : decode cX2_takes 45 = .ok (.invokestatic 89, 3) := dk_184 0 89 (dk_at dksX2_takes_2 0 rfl rfl)
theorem dX2_takes_48 : decode cX2_takes 48 = .ok (.aload_n 1, 1) := dk_43 (dk_at dksX2_takes_2 3 rfl rfl)
theorem dX2_takes_49 : decode cX2_takes 49 = .ok (.getfield 31, 3) := dk_180 0 31 (dk_at dksX2_takes_2 4 rfl rfl)
theorem dX2_takes_52 : decode cX2_takes 52 = .ok (.iconst 0, 1) := dk_3 (dk_at dksX2_takes_2 7 rfl rfl)
theorem dX2_takes_53 : decode cX2_takes 53 = .ok (.aload_n 0, 1) := dk_42 (dk_at dksX2_takes_2 8 rfl rfl)
theorem dX2_takes_54 : decode cX2_takes 54 = .ok (.getfield 31, 3) := dk_180 0 31 (dk_at dksX2_takes_2 9 rfl rfl)
theorem dX2_takes_57 : decode cX2_takes 57 = .ok (.iconst 0, 1) := dk_3 (dk_at dksX2_takes_2 12 rfl rfl)
theorem dX2_takes_58 : decode cX2_takes 58 = .ok (.bipush 9, 2) := dk_16 9 (dk_at dksX2_takes_2 13 rfl rfl)
theorem dX2_takes_60 : decode cX2_takes 60 = .ok (.invokestatic 89, 3) := dk_184 0 89 (dk_at dksX2_takes_2 15 rfl rfl)
theorem dX2_takes_63 : decode cX2_takes 63 = .ok (.aload_n 1, 1) := dk_43 (dk_at dksX2_takes_2 18 rfl rfl)
theorem dX2_takes_64 : decode cX2_takes 64 = .ok (.getfield 34, 3) := dk_180 0 34 (dk_at dksX2_takes_2 19 rfl rfl)
theorem dX2_takes_67 : decode cX2_takes 67 = .ok (.iconst 0, 1) := dk_3 (dk_at dksX2_takes_2 22 rfl rfl)
theorem dX2_takes_68 : decode cX2_takes 68 = .ok (.aload_n 0, 1) := dk_42 (dk_at dksX2_takes_2 23 rfl rfl)
theorem dX2_takes_69 : decode cX2_takes 69 = .ok (.getfield 34, 3) := dk_180 0 34 (dk_at dksX2_takes_3 0 rfl rfl)
theorem dX2_takes_72 : decode cX2_takes 72 = .ok (.iconst 0, 1) := dk_3 (dk_at dksX2_takes_3 3 rfl rfl)
theorem dX2_takes_73 : decode cX2_takes 73 = .ok (.bipush 8, 2) := dk_16 8 (dk_at dksX2_takes_3 4 rfl rfl)
theorem dX2_takes_75 : decode cX2_takes 75 = .ok (.invokestatic 89, 3) := dk_184 0 89 (dk_at dksX2_takes_3 6 rfl rfl)
theorem dX2_takes_78 : decode cX2_takes 78 = .ok (.aload_n 1, 1) := dk_43 (dk_at dksX2_takes_3 9 rfl rfl)
theorem dX2_takes_79 : decode cX2_takes 79 = .ok (.getfield 37, 3) := dk_180 0 37 (dk_at dksX2_takes_3 10 rfl rfl)
theorem dX2_takes_82 : decode cX2_takes 82 = .ok (.iconst 0, 1) := dk_3 (dk_at dksX2_takes_3 13 rfl rfl)
theorem dX2_takes_83 : decode cX2_takes 83 = .ok (.aload_n 0, 1) := dk_42 (dk_at dksX2_takes_3 14 rfl rfl)
theorem dX2_takes_84 : decode cX2_takes 84 = .ok (.getfield 37, 3) := dk_180 0 37 (dk_at dksX2_takes_3 15 rfl rfl)
theorem dX2_takes_87 : decode cX2_takes 87 = .ok (.iconst 0, 1) := dk_3 (dk_at dksX2_takes_3 18 rfl rfl)
theorem dX2_takes_88 : decode cX2_takes 88 = .ok (.sipush 576, 3) := dk_17 2 64 (dk_at dksX2_takes_3 19 rfl rfl)
theorem dX2_takes_91 : decode cX2_takes 91 = .ok (.invokestatic 89, 3) := dk_184 0 89 (dk_at dksX2_takes_4 0 rfl rfl)
theorem dX2_takes_94 : decode cX2_takes 94 = .ok (.aload_n 1, 1) := dk_43 (dk_at dksX2_takes_4 3 rfl rfl)
theorem dX2_takes_95 : decode cX2_takes 95 = .ok (.getfield 41, 3) := dk_180 0 41 (dk_at dksX2_takes_4 4 rfl rfl)
theorem dX2_takes_98 : decode cX2_takes 98 = .ok (.iconst 0, 1) := dk_3 (dk_at dksX2_takes_4 7 rfl rfl)
theorem dX2_takes_99 : decode cX2_takes 99 = .ok (.aload_n 0, 1) := dk_42 (dk_at dksX2_takes_4 8 rfl rfl)
theorem dX2_takes_100 : decode cX2_takes 100 = .ok (.getfield 41, 3) := dk_180 0 41 (dk_at dksX2_takes_4 9 rfl rfl)
theorem dX2_takes_103 : decode cX2_takes 103 = .ok (.iconst 0, 1) := dk_3 (dk_at dksX2_takes_4 12 rfl rfl)
theorem dX2_takes_104 : decode cX2_takes 104 = .ok (.sipush 576, 3) := dk_17 2 64 (dk_at dksX2_takes_4 13 rfl rfl)
theorem dX2_takes_107 : decode cX2_takes 107 = .ok (.invokestatic 89, 3) := dk_184 0 89 (dk_at dksX2_takes_4 16 rfl rfl)
theorem dX2_takes_110 : decode cX2_takes 110 = .ok (.aload_n 1, 1) := dk_43 (dk_at dksX2_takes_4 19 rfl rfl)
theorem dX2_takes_111 : decode cX2_takes 111 = .ok (.getfield 44, 3) := dk_180 0 44 (dk_at dksX2_takes_4 20 rfl rfl)
theorem dX2_takes_114 : decode cX2_takes 114 = .ok (.iconst 0, 1) := dk_3 (dk_at dksX2_takes_4 23 rfl rfl)
theorem dX2_takes_115 : decode cX2_takes 115 = .ok (.aload_n 0, 1) := dk_42 (dk_at dksX2_takes_5 0 rfl rfl)
theorem dX2_takes_116 : decode cX2_takes 116 = .ok (.getfield 44, 3) := dk_180 0 44 (dk_at dksX2_takes_5 1 rfl rfl)
theorem dX2_takes_119 : decode cX2_takes 119 = .ok (.iconst 0, 1) := dk_3 (dk_at dksX2_takes_5 4 rfl rfl)
theorem dX2_takes_120 : decode cX2_takes 120 = .ok (.aload_n 1, 1) := dk_43 (dk_at dksX2_takes_5 5 rfl rfl)
theorem dX2_takes_121 : decode cX2_takes 121 = .ok (.getfield 95, 3) := dk_180 0 95 (dk_at dksX2_takes_5 6 rfl rfl)
theorem dX2_takes_124 : decode cX2_takes 124 = .ok (.sipush 720, 3) := dk_17 2 208 (dk_at dksX2_takes_5 9 rfl rfl)
theorem dX2_takes_127 : decode cX2_takes 127 = .ok (.invokestatic 99, 3) := dk_184 0 99 (dk_at dksX2_takes_5 12 rfl rfl)
theorem dX2_takes_130 : decode cX2_takes 130 = .ok (.invokestatic 89, 3) := dk_184 0 89 (dk_at dksX2_takes_5 15 rfl rfl)
theorem dX2_takes_133 : decode cX2_takes 133 = .ok (.aload_n 1, 1) := dk_43 (dk_at dksX2_takes_5 18 rfl rfl)
theorem dX2_takes_134 : decode cX2_takes 134 = .ok (.getfield 48, 3) := dk_180 0 48 (dk_at dksX2_takes_5 19 rfl rfl)
theorem dX2_takes_137 : decode cX2_takes 137 = .ok (.iconst 0, 1) := dk_3 (dk_at dksX2_takes_5 22 rfl rfl)
theorem dX2_takes_138 : decode cX2_takes 138 = .ok (.aload_n 0, 1) := dk_42 (dk_at dksX2_takes_5 23 rfl rfl)
theorem dX2_takes_139 : decode cX2_takes 139 = .ok (.getfield 48, 3) := dk_180 0 48 (dk_at dksX2_takes_6 0 rfl rfl)
theorem dX2_takes_142 : decode cX2_takes 142 = .ok (.iconst 0, 1) := dk_3 (dk_at dksX2_takes_6 3 rfl rfl)
theorem dX2_takes_143 : decode cX2_takes 143 = .ok (.aload_n 1, 1) := dk_43 (dk_at dksX2_takes_6 4 rfl rfl)
theorem dX2_takes_144 : decode cX2_takes 144 = .ok (.getfield 95, 3) := dk_180 0 95 (dk_at dksX2_takes_6 5 rfl rfl)
theorem dX2_takes_147 : decode cX2_takes 147 = .ok (.sipush 720, 3) := dk_17 2 208 (dk_at dksX2_takes_6 8 rfl rfl)
theorem dX2_takes_150 : decode cX2_takes 150 = .ok (.invokestatic 99, 3) := dk_184 0 99 (dk_at dksX2_takes_6 11 rfl rfl)
theorem dX2_takes_153 : decode cX2_takes 153 = .ok (.invokestatic 89, 3) := dk_184 0 89 (dk_at dksX2_takes_6 14 rfl rfl)
theorem dX2_takes_156 : decode cX2_takes 156 = .ok (.aload_n 1, 1) := dk_43 (dk_at dksX2_takes_6 17 rfl rfl)
theorem dX2_takes_157 : decode cX2_takes 157 = .ok (.getfield 51, 3) := dk_180 0 51 (dk_at dksX2_takes_6 18 rfl rfl)
theorem dX2_takes_160 : decode cX2_takes 160 = .ok (.iconst 0, 1) := dk_3 (dk_at dksX2_takes_6 21 rfl rfl)
theorem dX2_takes_161 : decode cX2_takes 161 = .ok (.aload_n 0, 1) := dk_42 (dk_at dksX2_takes_6 22 rfl rfl)
theorem dX2_takes_162 : decode cX2_takes 162 = .ok (.getfield 51, 3) := dk_180 0 51 (dk_at dksX2_takes_7 0 rfl rfl)
theorem dX2_takes_165 : decode cX2_takes 165 = .ok (.iconst 0, 1) := dk_3 (dk_at dksX2_takes_7 3 rfl rfl)
theorem dX2_takes_166 : decode cX2_takes 166 = .ok (.aload_n 1, 1) := dk_43 (dk_at dksX2_takes_7 4 rfl rfl)
theorem dX2_takes_167 : decode cX2_takes 167 = .ok (.getfield 95, 3) := dk_180 0 95 (dk_at dksX2_takes_7 5 rfl rfl)
theorem dX2_takes_170 : decode cX2_takes 170 = .ok (.sipush 720, 3) := dk_17 2 208 (dk_at dksX2_takes_7 8 rfl rfl)
theorem dX2_takes_173 : decode cX2_takes 173 = .ok (.invokestatic 99, 3) := dk_184 0 99 (dk_at dksX2_takes_7 11 rfl rfl)
theorem dX2_takes_176 : decode cX2_takes 176 = .ok (.invokestatic 89, 3) := dk_184 0 89 (dk_at dksX2_takes_7 14 rfl rfl)
theorem dX2_takes_179 : decode cX2_takes 179 = .ok (.aload_n 0, 1) := dk_42 (dk_at dksX2_takes_7 17 rfl rfl)
theorem dX2_takes_180 : decode cX2_takes 180 = .ok (.aload_n 1, 1) := dk_43 (dk_at dksX2_takes_7 18 rfl rfl)
theorem dX2_takes_181 : decode cX2_takes 181 = .ok (.getfield 95, 3) := dk_180 0 95 (dk_at dksX2_takes_7 19 rfl rfl)
theorem dX2_takes_184 : decode cX2_takes 184 = .ok (.putfield 95, 3) := dk_181 0 95 (dk_at dksX2_takes_8 0 rfl rfl)
theorem dX2_takes_187 : decode cX2_takes 187 = .ok (.aload_n 0, 1) := dk_42 (dk_at dksX2_takes_8 3 rfl rfl)
theorem dX2_takes_188 : decode cX2_takes 188 = .ok (.areturn, 1) := dk_176 (dk_at dksX2_takes_8 4 rfl rfl)
abbrev cX2_isTold : ByteArray := prog_8_method_7_code
def yX2_isTold : MethodName := ⟨RX2, "isTold", "([I)Z"⟩
def dkwX2_isTold_0 : List UInt8 := [42, 180, 0, 23, 43, 184, 0, 136, 184, 0, 120, 182, 0, 139, 172]
abbrev dktX2_isTold_0 : List UInt8 := dkwX2_isTold_0 ++ []
theorem dksX2_isTold_0 : cX2_isTold.data.toList.drop 0 = dktX2_isTold_0 := by decide +kernel
theorem dX2_isTold_0 : decode cX2_isTold 0 = .ok (.aload_n 0, 1) := dk_42 (dk_at dksX2_isTold_0 0 rfl rfl)
theorem dX2_isTold_1 : decode cX2_isTold 1 = .ok (.getfield 23, 3) := dk_180 0 23 (dk_at dksX2_isTold_0 1 rfl rfl)
theorem dX2_isTold_4 : decode cX2_isTold 4 = .ok (.aload_n 1, 1) := dk_43 (dk_at dksX2_isTold_0 4 rfl rfl)
theorem dX2_isTold_5 : decode cX2_isTold 5 = .ok (.invokestatic 136, 3) := dk_184 0 136 (dk_at dksX2_isTold_0 5 rfl rfl)
theorem dX2_isTold_8 : decode cX2_isTold 8 = .ok (.invokestatic 120, 3) := dk_184 0 120 (dk_at dksX2_isTold_0 8 rfl rfl)
theorem dX2_isTold_11 : decode cX2_isTold 11 = .ok (.invokevirtual 139, 3) := dk_182 0 139 (dk_at dksX2_isTold_0 11 rfl rfl)
theorem dX2_isTold_14 : decode cX2_isTold 14 = .ok (.ireturn, 1) := dk_172 (dk_at dksX2_isTold_0 14 rfl rfl)
abbrev cX2_lives : ByteArray := prog_8_method_21_code
def yX2_lives : MethodName := ⟨RX2, "lives", "(II)I"⟩
def dkwX2_lives_5 : List UInt8 := [180, 0, 51, 42, 180, 0, 95, 21, 4, 145, 84, 42, 89, 180, 0, 95, 4, 96, 181, 0, 95, 21, 4, 172]
abbrev dktX2_lives_5 : List UInt8 := dkwX2_lives_5 ++ []
def dkwX2_lives_4 : List UInt8 := [42, 180, 0, 44, 42, 180, 0, 95, 27, 145, 84, 42, 180, 0, 48, 42, 180, 0, 95, 28, 145, 84, 42]
abbrev dktX2_lives_4 : List UInt8 := dkwX2_lives_4 ++ dktX2_lives_5
def dkwX2_lives_3 : List UInt8 := [42, 27, 29, 28, 182, 0, 197, 42, 27, 29, 28, 182, 0, 200, 42, 180, 0, 95, 17, 2, 208, 162, 0, 37]
abbrev dktX2_lives_3 : List UInt8 := dkwX2_lives_3 ++ dktX2_lives_4
def dkwX2_lives_2 : List UInt8 := [21, 4, 2, 160, 0, 7, 6, 167, 0, 14, 21, 4, 28, 160, 0, 7, 4, 167, 0, 4, 5, 182, 0, 195]
abbrev dktX2_lives_2 : List UInt8 := dkwX2_lives_2 ++ dktX2_lives_3
def dkwX2_lives_1 : List UInt8 := [42, 182, 0, 192, 4, 164, 0, 7, 4, 167, 0, 4, 3, 184, 0, 177, 96, 79, 42, 3, 182, 0, 195, 42]
abbrev dktX2_lives_1 : List UInt8 := dkwX2_lives_1 ++ dktX2_lives_2
def dkwX2_lives_0 : List UInt8 := [42, 180, 0, 95, 184, 0, 185, 62, 42, 27, 29, 182, 0, 190, 54, 4, 42, 180, 0, 31, 16, 8, 92, 46]
abbrev dktX2_lives_0 : List UInt8 := dkwX2_lives_0 ++ dktX2_lives_1
theorem dksX2_lives_0 : cX2_lives.data.toList.drop 0 = dktX2_lives_0 := by decide +kernel
theorem dksX2_lives_1 : cX2_lives.data.toList.drop 24 = dktX2_lives_1 := dk_seg dksX2_lives_0 24 rfl rfl
theorem dksX2_lives_2 : cX2_lives.data.toList.drop 48 = dktX2_lives_2 := dk_seg dksX2_lives_1 24 rfl rfl
theorem dksX2_lives_3 : cX2_lives.data.toList.drop 72 = dktX2_lives_3 := dk_seg dksX2_lives_2 24 rfl rfl
theorem dksX2_lives_4 : cX2_lives.data.toList.drop 96 = dktX2_lives_4 := dk_seg dksX2_lives_3 24 rfl rfl
theorem dksX2_lives_5 : cX2_lives.data.toList.drop 119 = dktX2_lives_5 := dk_seg dksX2_lives_4 23 rfl rfl
theorem dX2_lives_0 : decode cX2_lives 0 = .ok (.aload_n 0, 1) := dk_42 (dk_at dksX2_lives_0 0 rfl rfl)
theorem dX2_lives_1 : decode cX2_lives 1 = .ok (.getfield 95, 3) := dk_180 0 95 (dk_at dksX2_lives_0 1 rfl rfl)
theorem dX2_lives_4 : decode cX2_lives 4 = .ok (.invokestatic 185, 3) := dk_184 0 185 (dk_at dksX2_lives_0 4 rfl rfl)
theorem dX2_lives_7 : decode cX2_lives 7 = .ok (.istore_n 3, 1) := dk_62 (dk_at dksX2_lives_0 7 rfl rfl)
theorem dX2_lives_8 : decode cX2_lives 8 = .ok (.aload_n 0, 1) := dk_42 (dk_at dksX2_lives_0 8 rfl rfl)
theorem dX2_lives_9 : decode cX2_lives 9 = .ok (.iload_n 1, 1) := dk_27 (dk_at dksX2_lives_0 9 rfl rfl)
theorem dX2_lives_10 : decode cX2_lives 10 = .ok (.iload_n 3, 1) := dk_29 (dk_at dksX2_lives_0 10 rfl rfl)
theorem dX2_lives_11 : decode cX2_lives 11 = .ok (.invokevirtual 190, 3) := dk_182 0 190 (dk_at dksX2_lives_0 11 rfl rfl)
theorem dX2_lives_14 : decode cX2_lives 14 = .ok (.istore 4, 2) := dk_54 4 (dk_at dksX2_lives_0 14 rfl rfl)
theorem dX2_lives_16 : decode cX2_lives 16 = .ok (.aload_n 0, 1) := dk_42 (dk_at dksX2_lives_0 16 rfl rfl)
theorem dX2_lives_17 : decode cX2_lives 17 = .ok (.getfield 31, 3) := dk_180 0 31 (dk_at dksX2_lives_0 17 rfl rfl)
theorem dX2_lives_20 : decode cX2_lives 20 = .ok (.bipush 8, 2) := dk_16 8 (dk_at dksX2_lives_0 20 rfl rfl)
theorem dX2_lives_22 : decode cX2_lives 22 = .ok (.dup2, 1) := dk_92 (dk_at dksX2_lives_0 22 rfl rfl)
theorem dX2_lives_23 : decode cX2_lives 23 = .ok (.iaload, 1) := dk_46 (dk_at dksX2_lives_0 23 rfl rfl)
theorem dX2_lives_24 : decode cX2_lives 24 = .ok (.aload_n 0, 1) := dk_42 (dk_at dksX2_lives_1 0 rfl rfl)
theorem dX2_lives_25 : decode cX2_lives 25 = .ok (.invokevirtual 192, 3) := dk_182 0 192 (dk_at dksX2_lives_1 1 rfl rfl)
theorem dX2_lives_28 : decode cX2_lives 28 = .ok (.iconst 1, 1) := dk_4 (dk_at dksX2_lives_1 4 rfl rfl)
theorem dX2_lives_29 : decode cX2_lives 29 = .ok (.if_icmp .le 7, 3) := dk_164 0 7 (dk_at dksX2_lives_1 5 rfl rfl)
theorem dX2_lives_32 : decode cX2_lives 32 = .ok (.iconst 1, 1) := dk_4 (dk_at dksX2_lives_1 8 rfl rfl)
theorem dX2_lives_33 : decode cX2_lives 33 = .ok (.goto 4, 3) := dk_167 0 4 (dk_at dksX2_lives_1 9 rfl rfl)
theorem dX2_lives_36 : decode cX2_lives 36 = .ok (.iconst 0, 1) := dk_3 (dk_at dksX2_lives_1 12 rfl rfl)
theorem dX2_lives_37 : decode cX2_lives 37 = .ok (.invokestatic 177, 3) := dk_184 0 177 (dk_at dksX2_lives_1 13 rfl rfl)
theorem dX2_lives_40 : decode cX2_lives 40 = .ok (.iadd, 1) := dk_96 (dk_at dksX2_lives_1 16 rfl rfl)
theorem dX2_lives_41 : decode cX2_lives 41 = .ok (.iastore, 1) := dk_79 (dk_at dksX2_lives_1 17 rfl rfl)
theorem dX2_lives_42 : decode cX2_lives 42 = .ok (.aload_n 0, 1) := dk_42 (dk_at dksX2_lives_1 18 rfl rfl)
theorem dX2_lives_43 : decode cX2_lives 43 = .ok (.iconst 0, 1) := dk_3 (dk_at dksX2_lives_1 19 rfl rfl)
theorem dX2_lives_44 : decode cX2_lives 44 = .ok (.invokevirtual 195, 3) := dk_182 0 195 (dk_at dksX2_lives_1 20 rfl rfl)
theorem dX2_lives_47 : decode cX2_lives 47 = .ok (.aload_n 0, 1) := dk_42 (dk_at dksX2_lives_1 23 rfl rfl)
theorem dX2_lives_48 : decode cX2_lives 48 = .ok (.iload 4, 2) := dk_21 4 (dk_at dksX2_lives_2 0 rfl rfl)
theorem dX2_lives_50 : decode cX2_lives 50 = .ok (.iconst (-1), 1) := dk_2 (dk_at dksX2_lives_2 2 rfl rfl)
theorem dX2_lives_51 : decode cX2_lives 51 = .ok (.if_icmp .ne 7, 3) := dk_160 0 7 (dk_at dksX2_lives_2 3 rfl rfl)
theorem dX2_lives_54 : decode cX2_lives 54 = .ok (.iconst 3, 1) := dk_6 (dk_at dksX2_lives_2 6 rfl rfl)
theorem dX2_lives_55 : decode cX2_lives 55 = .ok (.goto 14, 3) := dk_167 0 14 (dk_at dksX2_lives_2 7 rfl rfl)
theorem dX2_lives_58 : decode cX2_lives 58 = .ok (.iload 4, 2) := dk_21 4 (dk_at dksX2_lives_2 10 rfl rfl)
theorem dX2_lives_60 : decode cX2_lives 60 = .ok (.iload_n 2, 1) := dk_28 (dk_at dksX2_lives_2 12 rfl rfl)
theorem dX2_lives_61 : decode cX2_lives 61 = .ok (.if_icmp .ne 7, 3) := dk_160 0 7 (dk_at dksX2_lives_2 13 rfl rfl)
theorem dX2_lives_64 : decode cX2_lives 64 = .ok (.iconst 1, 1) := dk_4 (dk_at dksX2_lives_2 16 rfl rfl)
theorem dX2_lives_65 : decode cX2_lives 65 = .ok (.goto 4, 3) := dk_167 0 4 (dk_at dksX2_lives_2 17 rfl rfl)
theorem dX2_lives_68 : decode cX2_lives 68 = .ok (.iconst 2, 1) := dk_5 (dk_at dksX2_lives_2 20 rfl rfl)
theorem dX2_lives_69 : decode cX2_lives 69 = .ok (.invokevirtual 195, 3) := dk_182 0 195 (dk_at dksX2_lives_2 21 rfl rfl)
theorem dX2_lives_72 : decode cX2_lives 72 = .ok (.aload_n 0, 1) := dk_42 (dk_at dksX2_lives_3 0 rfl rfl)
theorem dX2_lives_73 : decode cX2_lives 73 = .ok (.iload_n 1, 1) := dk_27 (dk_at dksX2_lives_3 1 rfl rfl)
theorem dX2_lives_74 : decode cX2_lives 74 = .ok (.iload_n 3, 1) := dk_29 (dk_at dksX2_lives_3 2 rfl rfl)
theorem dX2_lives_75 : decode cX2_lives 75 = .ok (.iload_n 2, 1) := dk_28 (dk_at dksX2_lives_3 3 rfl rfl)
theorem dX2_lives_76 : decode cX2_lives 76 = .ok (.invokevirtual 197, 3) := dk_182 0 197 (dk_at dksX2_lives_3 4 rfl rfl)
theorem dX2_lives_79 : decode cX2_lives 79 = .ok (.aload_n 0, 1) := dk_42 (dk_at dksX2_lives_3 7 rfl rfl)
theorem dX2_lives_80 : decode cX2_lives 80 = .ok (.iload_n 1, 1) := dk_27 (dk_at dksX2_lives_3 8 rfl rfl)
theorem dX2_lives_81 : decode cX2_lives 81 = .ok (.iload_n 3, 1) := dk_29 (dk_at dksX2_lives_3 9 rfl rfl)
theorem dX2_lives_82 : decode cX2_lives 82 = .ok (.iload_n 2, 1) := dk_28 (dk_at dksX2_lives_3 10 rfl rfl)
theorem dX2_lives_83 : decode cX2_lives 83 = .ok (.invokevirtual 200, 3) := dk_182 0 200 (dk_at dksX2_lives_3 11 rfl rfl)
theorem dX2_lives_86 : decode cX2_lives 86 = .ok (.aload_n 0, 1) := dk_42 (dk_at dksX2_lives_3 14 rfl rfl)
theorem dX2_lives_87 : decode cX2_lives 87 = .ok (.getfield 95, 3) := dk_180 0 95 (dk_at dksX2_lives_3 15 rfl rfl)
theorem dX2_lives_90 : decode cX2_lives 90 = .ok (.sipush 720, 3) := dk_17 2 208 (dk_at dksX2_lives_3 18 rfl rfl)
theorem dX2_lives_93 : decode cX2_lives 93 = .ok (.if_icmp .ge 37, 3) := dk_162 0 37 (dk_at dksX2_lives_3 21 rfl rfl)
theorem dX2_lives_96 : decode cX2_lives 96 = .ok (.aload_n 0, 1) := dk_42 (dk_at dksX2_lives_4 0 rfl rfl)
theorem dX2_lives_97 : decode cX2_lives 97 = .ok (.getfield 44, 3) := dk_180 0 44 (dk_at dksX2_lives_4 1 rfl rfl)
theorem dX2_lives_100 : decode cX2_lives 100 = .ok (.aload_n 0, 1) := dk_42 (dk_at dksX2_lives_4 4 rfl rfl)
theorem dX2_lives_101 : decode cX2_lives 101 = .ok (.getfield 95, 3) := dk_180 0 95 (dk_at dksX2_lives_4 5 rfl rfl)
theorem dX2_lives_104 : decode cX2_lives 104 = .ok (.iload_n 1, 1) := dk_27 (dk_at dksX2_lives_4 8 rfl rfl)
theorem dX2_lives_105 : decode cX2_lives 105 = .ok (.i2b, 1) := dk_145 (dk_at dksX2_lives_4 9 rfl rfl)
theorem dX2_lives_106 : decode cX2_lives 106 = .ok (.bastore, 1) := dk_84 (dk_at dksX2_lives_4 10 rfl rfl)
theorem dX2_lives_107 : decode cX2_lives 107 = .ok (.aload_n 0, 1) := dk_42 (dk_at dksX2_lives_4 11 rfl rfl)
theorem dX2_lives_108 : decode cX2_lives 108 = .ok (.getfield 48, 3) := dk_180 0 48 (dk_at dksX2_lives_4 12 rfl rfl)
theorem dX2_lives_111 : decode cX2_lives 111 = .ok (.aload_n 0, 1) := dk_42 (dk_at dksX2_lives_4 15 rfl rfl)
theorem dX2_lives_112 : decode cX2_lives 112 = .ok (.getfield 95, 3) := dk_180 0 95 (dk_at dksX2_lives_4 16 rfl rfl)
theorem dX2_lives_115 : decode cX2_lives 115 = .ok (.iload_n 2, 1) := dk_28 (dk_at dksX2_lives_4 19 rfl rfl)
theorem dX2_lives_116 : decode cX2_lives 116 = .ok (.i2b, 1) := dk_145 (dk_at dksX2_lives_4 20 rfl rfl)
theorem dX2_lives_117 : decode cX2_lives 117 = .ok (.bastore, 1) := dk_84 (dk_at dksX2_lives_4 21 rfl rfl)
theorem dX2_lives_118 : decode cX2_lives 118 = .ok (.aload_n 0, 1) := dk_42 (dk_at dksX2_lives_4 22 rfl rfl)
theorem dX2_lives_119 : decode cX2_lives 119 = .ok (.getfield 51, 3) := dk_180 0 51 (dk_at dksX2_lives_5 0 rfl rfl)
theorem dX2_lives_122 : decode cX2_lives 122 = .ok (.aload_n 0, 1) := dk_42 (dk_at dksX2_lives_5 3 rfl rfl)
theorem dX2_lives_123 : decode cX2_lives 123 = .ok (.getfield 95, 3) := dk_180 0 95 (dk_at dksX2_lives_5 4 rfl rfl)
theorem dX2_lives_126 : decode cX2_lives 126 = .ok (.iload 4, 2) := dk_21 4 (dk_at dksX2_lives_5 7 rfl rfl)
theorem dX2_lives_128 : decode cX2_lives 128 = .ok (.i2b, 1) := dk_145 (dk_at dksX2_lives_5 9 rfl rfl)
theorem dX2_lives_129 : decode cX2_lives 129 = .ok (.bastore, 1) := dk_84 (dk_at dksX2_lives_5 10 rfl rfl)
theorem dX2_lives_130 : decode cX2_lives 130 = .ok (.aload_n 0, 1) := dk_42 (dk_at dksX2_lives_5 11 rfl rfl)
theorem dX2_lives_131 : decode cX2_lives 131 = .ok (.dup, 1) := dk_89 (dk_at dksX2_lives_5 12 rfl rfl)
theorem dX2_lives_132 : decode cX2_lives 132 = .ok (.getfield 95, 3) := dk_180 0 95 (dk_at dksX2_lives_5 13 rfl rfl)
theorem dX2_lives_135 : decode cX2_lives 135 = .ok (.iconst 1, 1) := dk_4 (dk_at dksX2_lives_5 16 rfl rfl)
theorem dX2_lives_136 : decode cX2_lives 136 = .ok (.iadd, 1) := dk_96 (dk_at dksX2_lives_5 17 rfl rfl)
theorem dX2_lives_137 : decode cX2_lives 137 = .ok (.putfield 95, 3) := dk_181 0 95 (dk_at dksX2_lives_5 18 rfl rfl)
theorem dX2_lives_140 : decode cX2_lives 140 = .ok (.iload 4, 2) := dk_21 4 (dk_at dksX2_lives_5 21 rfl rfl)
theorem dX2_lives_142 : decode cX2_lives 142 = .ok (.ireturn, 1) := dk_172 (dk_at dksX2_lives_5 23 rfl rfl)
abbrev cX2_told : ByteArray := prog_8_method_16_code
def yX2_told : MethodName := ⟨RX2, "told", "(II)I"⟩
def dkwX2_told_0 : List UInt8 := [42, 27, 28, 2, 182, 0, 173, 172]
abbrev dktX2_told_0 : List UInt8 := dkwX2_told_0 ++ []
theorem dksX2_told_0 : cX2_told.data.toList.drop 0 = dktX2_told_0 := by decide +kernel
theorem dX2_told_0 : decode cX2_told 0 = .ok (.aload_n 0, 1) := dk_42 (dk_at dksX2_told_0 0 rfl rfl)
theorem dX2_told_1 : decode cX2_told 1 = .ok (.iload_n 1, 1) := dk_27 (dk_at dksX2_told_0 1 rfl rfl)
theorem dX2_told_2 : decode cX2_told 2 = .ok (.iload_n 2, 1) := dk_28 (dk_at dksX2_told_0 2 rfl rfl)
theorem dX2_told_3 : decode cX2_told 3 = .ok (.iconst (-1), 1) := dk_2 (dk_at dksX2_told_0 3 rfl rfl)
theorem dX2_told_4 : decode cX2_told 4 = .ok (.invokevirtual 173, 3) := dk_182 0 173 (dk_at dksX2_told_0 4 rfl rfl)
theorem dX2_told_7 : decode cX2_told 7 = .ok (.ireturn, 1) := dk_172 (dk_at dksX2_told_0 7 rfl rfl)
abbrev cX2_toldWithout : ByteArray := prog_8_method_15_code
def yX2_toldWithout : MethodName := ⟨RX2, "toldWithout", "(III)I"⟩
def dkwX2_toldWithout_2 : List UInt8 := [164, 0, 7, 21, 5, 54, 4, 132, 5, 1, 167, 255, 212, 21, 4, 172]
abbrev dktX2_toldWithout_2 : List UInt8 := dkwX2_toldWithout_2 ++ []
def dkwX2_toldWithout_1 : List UInt8 := [21, 5, 46, 158, 0, 28, 21, 4, 2, 159, 0, 18, 42, 21, 5, 182, 0, 169, 42, 21, 4, 182, 0, 169]
abbrev dktX2_toldWithout_1 : List UInt8 := dkwX2_toldWithout_1 ++ dktX2_toldWithout_2
def dkwX2_toldWithout_0 : List UInt8 := [42, 27, 28, 29, 182, 0, 165, 2, 54, 4, 3, 54, 5, 21, 5, 8, 162, 0, 44, 42, 180, 0, 60]
abbrev dktX2_toldWithout_0 : List UInt8 := dkwX2_toldWithout_0 ++ dktX2_toldWithout_1
theorem dksX2_toldWithout_0 : cX2_toldWithout.data.toList.drop 0 = dktX2_toldWithout_0 := by decide +kernel
theorem dksX2_toldWithout_1 : cX2_toldWithout.data.toList.drop 23 = dktX2_toldWithout_1 := dk_seg dksX2_toldWithout_0 23 rfl rfl
theorem dksX2_toldWithout_2 : cX2_toldWithout.data.toList.drop 47 = dktX2_toldWithout_2 := dk_seg dksX2_toldWithout_1 24 rfl rfl
theorem dX2_toldWithout_0 : decode cX2_toldWithout 0 = .ok (.aload_n 0, 1) := dk_42 (dk_at dksX2_toldWithout_0 0 rfl rfl)
theorem dX2_toldWithout_1 : decode cX2_toldWithout 1 = .ok (.iload_n 1, 1) := dk_27 (dk_at dksX2_toldWithout_0 1 rfl rfl)
theorem dX2_toldWithout_2 : decode cX2_toldWithout 2 = .ok (.iload_n 2, 1) := dk_28 (dk_at dksX2_toldWithout_0 2 rfl rfl)
theorem dX2_toldWithout_3 : decode cX2_toldWithout 3 = .ok (.iload_n 3, 1) := dk_29 (dk_at dksX2_toldWithout_0 3 rfl rfl)
theorem dX2_toldWithout_4 : decode cX2_toldWithout 4 = .ok (.invokevirtual 165, 3) := dk_182 0 165 (dk_at dksX2_toldWithout_0 4 rfl rfl)
theorem dX2_toldWithout_7 : decode cX2_toldWithout 7 = .ok (.iconst (-1), 1) := dk_2 (dk_at dksX2_toldWithout_0 7 rfl rfl)
theorem dX2_toldWithout_8 : decode cX2_toldWithout 8 = .ok (.istore 4, 2) := dk_54 4 (dk_at dksX2_toldWithout_0 8 rfl rfl)
theorem dX2_toldWithout_10 : decode cX2_toldWithout 10 = .ok (.iconst 0, 1) := dk_3 (dk_at dksX2_toldWithout_0 10 rfl rfl)
theorem dX2_toldWithout_11 : decode cX2_toldWithout 11 = .ok (.istore 5, 2) := dk_54 5 (dk_at dksX2_toldWithout_0 11 rfl rfl)
theorem dX2_toldWithout_13 : decode cX2_toldWithout 13 = .ok (.iload 5, 2) := dk_21 5 (dk_at dksX2_toldWithout_0 13 rfl rfl)
theorem dX2_toldWithout_15 : decode cX2_toldWithout 15 = .ok (.iconst 5, 1) := dk_8 (dk_at dksX2_toldWithout_0 15 rfl rfl)
theorem dX2_toldWithout_16 : decode cX2_toldWithout 16 = .ok (.if_icmp .ge 44, 3) := dk_162 0 44 (dk_at dksX2_toldWithout_0 16 rfl rfl)
theorem dX2_toldWithout_19 : decode cX2_toldWithout 19 = .ok (.aload_n 0, 1) := dk_42 (dk_at dksX2_toldWithout_0 19 rfl rfl)
theorem dX2_toldWithout_20 : decode cX2_toldWithout 20 = .ok (.getfield 60, 3) := dk_180 0 60 (dk_at dksX2_toldWithout_0 20 rfl rfl)
theorem dX2_toldWithout_23 : decode cX2_toldWithout 23 = .ok (.iload 5, 2) := dk_21 5 (dk_at dksX2_toldWithout_1 0 rfl rfl)
theorem dX2_toldWithout_25 : decode cX2_toldWithout 25 = .ok (.iaload, 1) := dk_46 (dk_at dksX2_toldWithout_1 2 rfl rfl)
theorem dX2_toldWithout_26 : decode cX2_toldWithout 26 = .ok (.ifCond .le 28, 3) := dk_158 0 28 (dk_at dksX2_toldWithout_1 3 rfl rfl)
theorem dX2_toldWithout_29 : decode cX2_toldWithout 29 = .ok (.iload 4, 2) := dk_21 4 (dk_at dksX2_toldWithout_1 6 rfl rfl)
theorem dX2_toldWithout_31 : decode cX2_toldWithout 31 = .ok (.iconst (-1), 1) := dk_2 (dk_at dksX2_toldWithout_1 8 rfl rfl)
theorem dX2_toldWithout_32 : decode cX2_toldWithout 32 = .ok (.if_icmp .eq 18, 3) := dk_159 0 18 (dk_at dksX2_toldWithout_1 9 rfl rfl)
theorem dX2_toldWithout_35 : decode cX2_toldWithout 35 = .ok (.aload_n 0, 1) := dk_42 (dk_at dksX2_toldWithout_1 12 rfl rfl)
theorem dX2_toldWithout_36 : decode cX2_toldWithout 36 = .ok (.iload 5, 2) := dk_21 5 (dk_at dksX2_toldWithout_1 13 rfl rfl)
theorem dX2_toldWithout_38 : decode cX2_toldWithout 38 = .ok (.invokevirtual 169, 3) := dk_182 0 169 (dk_at dksX2_toldWithout_1 15 rfl rfl)
theorem dX2_toldWithout_41 : decode cX2_toldWithout 41 = .ok (.aload_n 0, 1) := dk_42 (dk_at dksX2_toldWithout_1 18 rfl rfl)
theorem dX2_toldWithout_42 : decode cX2_toldWithout 42 = .ok (.iload 4, 2) := dk_21 4 (dk_at dksX2_toldWithout_1 19 rfl rfl)
theorem dX2_toldWithout_44 : decode cX2_toldWithout 44 = .ok (.invokevirtual 169, 3) := dk_182 0 169 (dk_at dksX2_toldWithout_1 21 rfl rfl)
theorem dX2_toldWithout_47 : decode cX2_toldWithout 47 = .ok (.if_icmp .le 7, 3) := dk_164 0 7 (dk_at dksX2_toldWithout_2 0 rfl rfl)
theorem dX2_toldWithout_50 : decode cX2_toldWithout 50 = .ok (.iload 5, 2) := dk_21 5 (dk_at dksX2_toldWithout_2 3 rfl rfl)
theorem dX2_toldWithout_52 : decode cX2_toldWithout 52 = .ok (.istore 4, 2) := dk_54 4 (dk_at dksX2_toldWithout_2 5 rfl rfl)
theorem dX2_toldWithout_54 : decode cX2_toldWithout 54 = .ok (.iinc 5 1, 3) := dk_132 5 1 (dk_at dksX2_toldWithout_2 7 rfl rfl)
theorem dX2_toldWithout_57 : decode cX2_toldWithout 57 = .ok (.goto (-44), 3) := dk_167 255 212 (dk_at dksX2_toldWithout_2 10 rfl rfl)
theorem dX2_toldWithout_60 : decode cX2_toldWithout 60 = .ok (.iload 4, 2) := dk_21 4 (dk_at dksX2_toldWithout_2 13 rfl rfl)
theorem dX2_toldWithout_62 : decode cX2_toldWithout 62 = .ok (.ireturn, 1) := dk_172 (dk_at dksX2_toldWithout_2 15 rfl rfl)
abbrev cX2_gathers : ByteArray := prog_8_method_12_code
def yX2_gathers : MethodName := ⟨RX2, "gathers", "(III)V"⟩
def dkwX2_gathers_6 : List UInt8 := [132, 4, 1, 167, 255, 152, 177]
abbrev dktX2_gathers_6 : List UInt8 := dkwX2_gathers_6 ++ []
def dkwX2_gathers_5 : List UInt8 := [25, 5, 180, 0, 147, 184, 0, 162, 79, 42, 180, 0, 60, 25, 5, 180, 0, 159, 92, 46, 4, 96, 79]
abbrev dktX2_gathers_5 : List UInt8 := dkwX2_gathers_5 ++ dktX2_gathers_6
def dkwX2_gathers_4 : List UInt8 := [180, 0, 147, 96, 79, 42, 180, 0, 57, 25, 5, 180, 0, 159, 42, 180, 0, 57, 25, 5, 180, 0, 159, 46]
abbrev dktX2_gathers_4 : List UInt8 := dkwX2_gathers_4 ++ dktX2_gathers_5
def dkwX2_gathers_3 : List UInt8 := [27, 28, 182, 0, 155, 154, 0, 6, 167, 0, 63, 42, 180, 0, 54, 25, 5, 180, 0, 159, 92, 46, 25, 5]
abbrev dktX2_gathers_3 : List UInt8 := dkwX2_gathers_3 ++ dktX2_gathers_4
def dkwX2_gathers_2 : List UInt8 := [185, 0, 64, 1, 0, 162, 0, 96, 42, 21, 4, 182, 0, 72, 58, 5, 21, 4, 29, 159, 0, 76, 25, 5]
abbrev dktX2_gathers_2 : List UInt8 := dkwX2_gathers_2 ++ dktX2_gathers_3
def dkwX2_gathers_1 : List UInt8 := [79, 42, 180, 0, 60, 21, 4, 3, 79, 132, 4, 1, 167, 255, 223, 3, 54, 4, 21, 4, 42, 180, 0, 14]
abbrev dktX2_gathers_1 : List UInt8 := dkwX2_gathers_1 ++ dktX2_gathers_2
def dkwX2_gathers_0 : List UInt8 := [3, 54, 4, 21, 4, 8, 162, 0, 33, 42, 180, 0, 54, 21, 4, 3, 79, 42, 180, 0, 57, 21, 4, 3]
abbrev dktX2_gathers_0 : List UInt8 := dkwX2_gathers_0 ++ dktX2_gathers_1
theorem dksX2_gathers_0 : cX2_gathers.data.toList.drop 0 = dktX2_gathers_0 := by decide +kernel
theorem dksX2_gathers_1 : cX2_gathers.data.toList.drop 24 = dktX2_gathers_1 := dk_seg dksX2_gathers_0 24 rfl rfl
theorem dksX2_gathers_2 : cX2_gathers.data.toList.drop 48 = dktX2_gathers_2 := dk_seg dksX2_gathers_1 24 rfl rfl
theorem dksX2_gathers_3 : cX2_gathers.data.toList.drop 72 = dktX2_gathers_3 := dk_seg dksX2_gathers_2 24 rfl rfl
theorem dksX2_gathers_4 : cX2_gathers.data.toList.drop 96 = dktX2_gathers_4 := dk_seg dksX2_gathers_3 24 rfl rfl
theorem dksX2_gathers_5 : cX2_gathers.data.toList.drop 120 = dktX2_gathers_5 := dk_seg dksX2_gathers_4 24 rfl rfl
theorem dksX2_gathers_6 : cX2_gathers.data.toList.drop 143 = dktX2_gathers_6 := dk_seg dksX2_gathers_5 23 rfl rfl
theorem dX2_gathers_0 : decode cX2_gathers 0 = .ok (.iconst 0, 1) := dk_3 (dk_at dksX2_gathers_0 0 rfl rfl)
theorem dX2_gathers_1 : decode cX2_gathers 1 = .ok (.istore 4, 2) := dk_54 4 (dk_at dksX2_gathers_0 1 rfl rfl)
theorem dX2_gathers_3 : decode cX2_gathers 3 = .ok (.iload 4, 2) := dk_21 4 (dk_at dksX2_gathers_0 3 rfl rfl)
theorem dX2_gathers_5 : decode cX2_gathers 5 = .ok (.iconst 5, 1) := dk_8 (dk_at dksX2_gathers_0 5 rfl rfl)
theorem dX2_gathers_6 : decode cX2_gathers 6 = .ok (.if_icmp .ge 33, 3) := dk_162 0 33 (dk_at dksX2_gathers_0 6 rfl rfl)
theorem dX2_gathers_9 : decode cX2_gathers 9 = .ok (.aload_n 0, 1) := dk_42 (dk_at dksX2_gathers_0 9 rfl rfl)
theorem dX2_gathers_10 : decode cX2_gathers 10 = .ok (.getfield 54, 3) := dk_180 0 54 (dk_at dksX2_gathers_0 10 rfl rfl)
theorem dX2_gathers_13 : decode cX2_gathers 13 = .ok (.iload 4, 2) := dk_21 4 (dk_at dksX2_gathers_0 13 rfl rfl)
theorem dX2_gathers_15 : decode cX2_gathers 15 = .ok (.iconst 0, 1) := dk_3 (dk_at dksX2_gathers_0 15 rfl rfl)
theorem dX2_gathers_16 : decode cX2_gathers 16 = .ok (.iastore, 1) := dk_79 (dk_at dksX2_gathers_0 16 rfl rfl)
theorem dX2_gathers_17 : decode cX2_gathers 17 = .ok (.aload_n 0, 1) := dk_42 (dk_at dksX2_gathers_0 17 rfl rfl)
theorem dX2_gathers_18 : decode cX2_gathers 18 = .ok (.getfield 57, 3) := dk_180 0 57 (dk_at dksX2_gathers_0 18 rfl rfl)
theorem dX2_gathers_21 : decode cX2_gathers 21 = .ok (.iload 4, 2) := dk_21 4 (dk_at dksX2_gathers_0 21 rfl rfl)
theorem dX2_gathers_23 : decode cX2_gathers 23 = .ok (.iconst 0, 1) := dk_3 (dk_at dksX2_gathers_0 23 rfl rfl)
theorem dX2_gathers_24 : decode cX2_gathers 24 = .ok (.iastore, 1) := dk_79 (dk_at dksX2_gathers_1 0 rfl rfl)
theorem dX2_gathers_25 : decode cX2_gathers 25 = .ok (.aload_n 0, 1) := dk_42 (dk_at dksX2_gathers_1 1 rfl rfl)
theorem dX2_gathers_26 : decode cX2_gathers 26 = .ok (.getfield 60, 3) := dk_180 0 60 (dk_at dksX2_gathers_1 2 rfl rfl)
theorem dX2_gathers_29 : decode cX2_gathers 29 = .ok (.iload 4, 2) := dk_21 4 (dk_at dksX2_gathers_1 5 rfl rfl)
theorem dX2_gathers_31 : decode cX2_gathers 31 = .ok (.iconst 0, 1) := dk_3 (dk_at dksX2_gathers_1 7 rfl rfl)
theorem dX2_gathers_32 : decode cX2_gathers 32 = .ok (.iastore, 1) := dk_79 (dk_at dksX2_gathers_1 8 rfl rfl)
theorem dX2_gathers_33 : decode cX2_gathers 33 = .ok (.iinc 4 1, 3) := dk_132 4 1 (dk_at dksX2_gathers_1 9 rfl rfl)
theorem dX2_gathers_36 : decode cX2_gathers 36 = .ok (.goto (-33), 3) := dk_167 255 223 (dk_at dksX2_gathers_1 12 rfl rfl)
theorem dX2_gathers_39 : decode cX2_gathers 39 = .ok (.iconst 0, 1) := dk_3 (dk_at dksX2_gathers_1 15 rfl rfl)
theorem dX2_gathers_40 : decode cX2_gathers 40 = .ok (.istore 4, 2) := dk_54 4 (dk_at dksX2_gathers_1 16 rfl rfl)
theorem dX2_gathers_42 : decode cX2_gathers 42 = .ok (.iload 4, 2) := dk_21 4 (dk_at dksX2_gathers_1 18 rfl rfl)
theorem dX2_gathers_44 : decode cX2_gathers 44 = .ok (.aload_n 0, 1) := dk_42 (dk_at dksX2_gathers_1 20 rfl rfl)
theorem dX2_gathers_45 : decode cX2_gathers 45 = .ok (.getfield 14, 3) := dk_180 0 14 (dk_at dksX2_gathers_1 21 rfl rfl)
theorem dX2_gathers_48 : decode cX2_gathers 48 = .ok (.invokeinterface 64 1, 5) := by decide +kernel
theorem dX2_gathers_53 : decode cX2_gathers 53 = .ok (.if_icmp .ge 96, 3) := dk_162 0 96 (dk_at dksX2_gathers_2 5 rfl rfl)
theorem dX2_gathers_56 : decode cX2_gathers 56 = .ok (.aload_n 0, 1) := dk_42 (dk_at dksX2_gathers_2 8 rfl rfl)
theorem dX2_gathers_57 : decode cX2_gathers 57 = .ok (.iload 4, 2) := dk_21 4 (dk_at dksX2_gathers_2 9 rfl rfl)
theorem dX2_gathers_59 : decode cX2_gathers 59 = .ok (.invokevirtual 72, 3) := dk_182 0 72 (dk_at dksX2_gathers_2 11 rfl rfl)
theorem dX2_gathers_62 : decode cX2_gathers 62 = .ok (.astore 5, 2) := dk_58 5 (dk_at dksX2_gathers_2 14 rfl rfl)
theorem dX2_gathers_64 : decode cX2_gathers 64 = .ok (.iload 4, 2) := dk_21 4 (dk_at dksX2_gathers_2 16 rfl rfl)
theorem dX2_gathers_66 : decode cX2_gathers 66 = .ok (.iload_n 3, 1) := dk_29 (dk_at dksX2_gathers_2 18 rfl rfl)
theorem dX2_gathers_67 : decode cX2_gathers 67 = .ok (.if_icmp .eq 76, 3) := dk_159 0 76 (dk_at dksX2_gathers_2 19 rfl rfl)
theorem dX2_gathers_70 : decode cX2_gathers 70 = .ok (.aload 5, 2) := dk_25 5 (dk_at dksX2_gathers_2 22 rfl rfl)
theorem dX2_gathers_72 : decode cX2_gathers 72 = .ok (.iload_n 1, 1) := dk_27 (dk_at dksX2_gathers_3 0 rfl rfl)
theorem dX2_gathers_73 : decode cX2_gathers 73 = .ok (.iload_n 2, 1) := dk_28 (dk_at dksX2_gathers_3 1 rfl rfl)
theorem dX2_gathers_74 : decode cX2_gathers 74 = .ok (.invokevirtual 155, 3) := dk_182 0 155 (dk_at dksX2_gathers_3 2 rfl rfl)
theorem dX2_gathers_77 : decode cX2_gathers 77 = .ok (.ifCond .ne 6, 3) := dk_154 0 6 (dk_at dksX2_gathers_3 5 rfl rfl)
theorem dX2_gathers_80 : decode cX2_gathers 80 = .ok (.goto 63, 3) := dk_167 0 63 (dk_at dksX2_gathers_3 8 rfl rfl)
theorem dX2_gathers_83 : decode cX2_gathers 83 = .ok (.aload_n 0, 1) := dk_42 (dk_at dksX2_gathers_3 11 rfl rfl)
theorem dX2_gathers_84 : decode cX2_gathers 84 = .ok (.getfield 54, 3) := dk_180 0 54 (dk_at dksX2_gathers_3 12 rfl rfl)
theorem dX2_gathers_87 : decode cX2_gathers 87 = .ok (.aload 5, 2) := dk_25 5 (dk_at dksX2_gathers_3 15 rfl rfl)
theorem dX2_gathers_89 : decode cX2_gathers 89 = .ok (.getfield 159, 3) := dk_180 0 159 (dk_at dksX2_gathers_3 17 rfl rfl)
theorem dX2_gathers_92 : decode cX2_gathers 92 = .ok (.dup2, 1) := dk_92 (dk_at dksX2_gathers_3 20 rfl rfl)
theorem dX2_gathers_93 : decode cX2_gathers 93 = .ok (.iaload, 1) := dk_46 (dk_at dksX2_gathers_3 21 rfl rfl)
theorem dX2_gathers_94 : decode cX2_gathers 94 = .ok (.aload 5, 2) := dk_25 5 (dk_at dksX2_gathers_3 22 rfl rfl)
theorem dX2_gathers_96 : decode cX2_gathers 96 = .ok (.getfield 147, 3) := dk_180 0 147 (dk_at dksX2_gathers_4 0 rfl rfl)
theorem dX2_gathers_99 : decode cX2_gathers 99 = .ok (.iadd, 1) := dk_96 (dk_at dksX2_gathers_4 3 rfl rfl)
theorem dX2_gathers_100 : decode cX2_gathers 100 = .ok (.iastore, 1) := dk_79 (dk_at dksX2_gathers_4 4 rfl rfl)
theorem dX2_gathers_101 : decode cX2_gathers 101 = .ok (.aload_n 0, 1) := dk_42 (dk_at dksX2_gathers_4 5 rfl rfl)
theorem dX2_gathers_102 : decode cX2_gathers 102 = .ok (.getfield 57, 3) := dk_180 0 57 (dk_at dksX2_gathers_4 6 rfl rfl)
theorem dX2_gathers_105 : decode cX2_gathers 105 = .ok (.aload 5, 2) := dk_25 5 (dk_at dksX2_gathers_4 9 rfl rfl)
theorem dX2_gathers_107 : decode cX2_gathers 107 = .ok (.getfield 159, 3) := dk_180 0 159 (dk_at dksX2_gathers_4 11 rfl rfl)
theorem dX2_gathers_110 : decode cX2_gathers 110 = .ok (.aload_n 0, 1) := dk_42 (dk_at dksX2_gathers_4 14 rfl rfl)
theorem dX2_gathers_111 : decode cX2_gathers 111 = .ok (.getfield 57, 3) := dk_180 0 57 (dk_at dksX2_gathers_4 15 rfl rfl)
theorem dX2_gathers_114 : decode cX2_gathers 114 = .ok (.aload 5, 2) := dk_25 5 (dk_at dksX2_gathers_4 18 rfl rfl)
theorem dX2_gathers_116 : decode cX2_gathers 116 = .ok (.getfield 159, 3) := dk_180 0 159 (dk_at dksX2_gathers_4 20 rfl rfl)
theorem dX2_gathers_119 : decode cX2_gathers 119 = .ok (.iaload, 1) := dk_46 (dk_at dksX2_gathers_4 23 rfl rfl)
theorem dX2_gathers_120 : decode cX2_gathers 120 = .ok (.aload 5, 2) := dk_25 5 (dk_at dksX2_gathers_5 0 rfl rfl)
theorem dX2_gathers_122 : decode cX2_gathers 122 = .ok (.getfield 147, 3) := dk_180 0 147 (dk_at dksX2_gathers_5 2 rfl rfl)
theorem dX2_gathers_125 : decode cX2_gathers 125 = .ok (.invokestatic 162, 3) := dk_184 0 162 (dk_at dksX2_gathers_5 5 rfl rfl)
theorem dX2_gathers_128 : decode cX2_gathers 128 = .ok (.iastore, 1) := dk_79 (dk_at dksX2_gathers_5 8 rfl rfl)
theorem dX2_gathers_129 : decode cX2_gathers 129 = .ok (.aload_n 0, 1) := dk_42 (dk_at dksX2_gathers_5 9 rfl rfl)
theorem dX2_gathers_130 : decode cX2_gathers 130 = .ok (.getfield 60, 3) := dk_180 0 60 (dk_at dksX2_gathers_5 10 rfl rfl)
theorem dX2_gathers_133 : decode cX2_gathers 133 = .ok (.aload 5, 2) := dk_25 5 (dk_at dksX2_gathers_5 13 rfl rfl)
theorem dX2_gathers_135 : decode cX2_gathers 135 = .ok (.getfield 159, 3) := dk_180 0 159 (dk_at dksX2_gathers_5 15 rfl rfl)
theorem dX2_gathers_138 : decode cX2_gathers 138 = .ok (.dup2, 1) := dk_92 (dk_at dksX2_gathers_5 18 rfl rfl)
theorem dX2_gathers_139 : decode cX2_gathers 139 = .ok (.iaload, 1) := dk_46 (dk_at dksX2_gathers_5 19 rfl rfl)
theorem dX2_gathers_140 : decode cX2_gathers 140 = .ok (.iconst 1, 1) := dk_4 (dk_at dksX2_gathers_5 20 rfl rfl)
theorem dX2_gathers_141 : decode cX2_gathers 141 = .ok (.iadd, 1) := dk_96 (dk_at dksX2_gathers_5 21 rfl rfl)
theorem dX2_gathers_142 : decode cX2_gathers 142 = .ok (.iastore, 1) := dk_79 (dk_at dksX2_gathers_5 22 rfl rfl)
theorem dX2_gathers_143 : decode cX2_gathers 143 = .ok (.iinc 4 1, 3) := dk_132 4 1 (dk_at dksX2_gathers_6 0 rfl rfl)
theorem dX2_gathers_146 : decode cX2_gathers 146 = .ok (.goto (-104), 3) := dk_167 255 152 (dk_at dksX2_gathers_6 3 rfl rfl)
theorem dX2_gathers_149 : decode cX2_gathers 149 = .ok (.return_, 1) := dk_177 (dk_at dksX2_gathers_6 6 rfl rfl)
abbrev cX2_gathered : ByteArray := prog_8_method_13_code
def yX2_gathered : MethodName := ⟨RX2, "gathered", "(I)I"⟩
def dkwX2_gathered_3 : List UInt8 := [42, 180, 0, 57, 27, 46, 96, 172]
abbrev dktX2_gathered_3 : List UInt8 := dkwX2_gathered_3 ++ []
def dkwX2_gathered_2 : List UInt8 := [42, 180, 0, 54, 27, 46, 172, 42, 180, 0, 57, 27, 46, 172, 17, 3, 232, 42, 180, 0, 60, 27, 46, 104]
abbrev dktX2_gathered_2 : List UInt8 := dkwX2_gathered_2 ++ dktX2_gathered_3
def dkwX2_gathered_1 : List UInt8 := [171, 0, 0, 0, 0, 40, 0, 0, 0, 2, 0, 0, 0, 0, 0, 0, 0, 26, 0, 0, 0, 1, 0, 0, 0, 33]
abbrev dktX2_gathered_1 : List UInt8 := dkwX2_gathered_1 ++ dktX2_gathered_2
def dkwX2_gathered_0 : List UInt8 := [42, 180, 0, 27, 3, 46]
abbrev dktX2_gathered_0 : List UInt8 := dkwX2_gathered_0 ++ dktX2_gathered_1
theorem dksX2_gathered_0 : cX2_gathered.data.toList.drop 0 = dktX2_gathered_0 := by decide +kernel
theorem dksX2_gathered_1 : cX2_gathered.data.toList.drop 6 = dktX2_gathered_1 := dk_seg dksX2_gathered_0 6 rfl rfl
theorem dksX2_gathered_2 : cX2_gathered.data.toList.drop 32 = dktX2_gathered_2 := dk_seg dksX2_gathered_1 26 rfl rfl
theorem dksX2_gathered_3 : cX2_gathered.data.toList.drop 56 = dktX2_gathered_3 := dk_seg dksX2_gathered_2 24 rfl rfl
theorem dX2_gathered_0 : decode cX2_gathered 0 = .ok (.aload_n 0, 1) := dk_42 (dk_at dksX2_gathered_0 0 rfl rfl)
theorem dX2_gathered_1 : decode cX2_gathered 1 = .ok (.getfield 27, 3) := dk_180 0 27 (dk_at dksX2_gathered_0 1 rfl rfl)
theorem dX2_gathered_4 : decode cX2_gathered 4 = .ok (.iconst 0, 1) := dk_3 (dk_at dksX2_gathered_0 4 rfl rfl)
theorem dX2_gathered_5 : decode cX2_gathered 5 = .ok (.iaload, 1) := dk_46 (dk_at dksX2_gathered_0 5 rfl rfl)
theorem dX2_gathered_6 : decode cX2_gathered 6 = .ok (.lookupswitch 40 #[(0, 26), (1, 33)], 26) := by decide +kernel
theorem dX2_gathered_32 : decode cX2_gathered 32 = .ok (.aload_n 0, 1) := dk_42 (dk_at dksX2_gathered_2 0 rfl rfl)
theorem dX2_gathered_33 : decode cX2_gathered 33 = .ok (.getfield 54, 3) := dk_180 0 54 (dk_at dksX2_gathered_2 1 rfl rfl)
theorem dX2_gathered_36 : decode cX2_gathered 36 = .ok (.iload_n 1, 1) := dk_27 (dk_at dksX2_gathered_2 4 rfl rfl)
theorem dX2_gathered_37 : decode cX2_gathered 37 = .ok (.iaload, 1) := dk_46 (dk_at dksX2_gathered_2 5 rfl rfl)
theorem dX2_gathered_38 : decode cX2_gathered 38 = .ok (.ireturn, 1) := dk_172 (dk_at dksX2_gathered_2 6 rfl rfl)
theorem dX2_gathered_39 : decode cX2_gathered 39 = .ok (.aload_n 0, 1) := dk_42 (dk_at dksX2_gathered_2 7 rfl rfl)
theorem dX2_gathered_40 : decode cX2_gathered 40 = .ok (.getfield 57, 3) := dk_180 0 57 (dk_at dksX2_gathered_2 8 rfl rfl)
theorem dX2_gathered_43 : decode cX2_gathered 43 = .ok (.iload_n 1, 1) := dk_27 (dk_at dksX2_gathered_2 11 rfl rfl)
theorem dX2_gathered_44 : decode cX2_gathered 44 = .ok (.iaload, 1) := dk_46 (dk_at dksX2_gathered_2 12 rfl rfl)
theorem dX2_gathered_45 : decode cX2_gathered 45 = .ok (.ireturn, 1) := dk_172 (dk_at dksX2_gathered_2 13 rfl rfl)
theorem dX2_gathered_46 : decode cX2_gathered 46 = .ok (.sipush 1000, 3) := dk_17 3 232 (dk_at dksX2_gathered_2 14 rfl rfl)
theorem dX2_gathered_49 : decode cX2_gathered 49 = .ok (.aload_n 0, 1) := dk_42 (dk_at dksX2_gathered_2 17 rfl rfl)
theorem dX2_gathered_50 : decode cX2_gathered 50 = .ok (.getfield 60, 3) := dk_180 0 60 (dk_at dksX2_gathered_2 18 rfl rfl)
theorem dX2_gathered_53 : decode cX2_gathered 53 = .ok (.iload_n 1, 1) := dk_27 (dk_at dksX2_gathered_2 21 rfl rfl)
theorem dX2_gathered_54 : decode cX2_gathered 54 = .ok (.iaload, 1) := dk_46 (dk_at dksX2_gathered_2 22 rfl rfl)
theorem dX2_gathered_55 : decode cX2_gathered 55 = .ok (.imul, 1) := dk_104 (dk_at dksX2_gathered_2 23 rfl rfl)
theorem dX2_gathered_56 : decode cX2_gathered 56 = .ok (.aload_n 0, 1) := dk_42 (dk_at dksX2_gathered_3 0 rfl rfl)
theorem dX2_gathered_57 : decode cX2_gathered 57 = .ok (.getfield 57, 3) := dk_180 0 57 (dk_at dksX2_gathered_3 1 rfl rfl)
theorem dX2_gathered_60 : decode cX2_gathered 60 = .ok (.iload_n 1, 1) := dk_27 (dk_at dksX2_gathered_3 4 rfl rfl)
theorem dX2_gathered_61 : decode cX2_gathered 61 = .ok (.iaload, 1) := dk_46 (dk_at dksX2_gathered_3 5 rfl rfl)
theorem dX2_gathered_62 : decode cX2_gathered 62 = .ok (.iadd, 1) := dk_96 (dk_at dksX2_gathered_3 6 rfl rfl)
theorem dX2_gathered_63 : decode cX2_gathered 63 = .ok (.ireturn, 1) := dk_172 (dk_at dksX2_gathered_3 7 rfl rfl)
abbrev cX2_kinds : ByteArray := prog_8_method_17_code
def yX2_kinds : MethodName := ⟨RX2, "kinds", "()I"⟩
def dkwX2_kinds_1 : List UInt8 := [184, 0, 177, 96, 60, 132, 2, 1, 167, 255, 228, 27, 172]
abbrev dktX2_kinds_1 : List UInt8 := dkwX2_kinds_1 ++ []
def dkwX2_kinds_0 : List UInt8 := [3, 60, 3, 61, 28, 8, 162, 0, 29, 27, 42, 180, 0, 60, 28, 46, 158, 0, 7, 4, 167, 0, 4, 3]
abbrev dktX2_kinds_0 : List UInt8 := dkwX2_kinds_0 ++ dktX2_kinds_1
theorem dksX2_kinds_0 : cX2_kinds.data.toList.drop 0 = dktX2_kinds_0 := by decide +kernel
theorem dksX2_kinds_1 : cX2_kinds.data.toList.drop 24 = dktX2_kinds_1 := dk_seg dksX2_kinds_0 24 rfl rfl
theorem dX2_kinds_0 : decode cX2_kinds 0 = .ok (.iconst 0, 1) := dk_3 (dk_at dksX2_kinds_0 0 rfl rfl)
theorem dX2_kinds_1 : decode cX2_kinds 1 = .ok (.istore_n 1, 1) := dk_60 (dk_at dksX2_kinds_0 1 rfl rfl)
theorem dX2_kinds_2 : decode cX2_kinds 2 = .ok (.iconst 0, 1) := dk_3 (dk_at dksX2_kinds_0 2 rfl rfl)
theorem dX2_kinds_3 : decode cX2_kinds 3 = .ok (.istore_n 2, 1) := dk_61 (dk_at dksX2_kinds_0 3 rfl rfl)
theorem dX2_kinds_4 : decode cX2_kinds 4 = .ok (.iload_n 2, 1) := dk_28 (dk_at dksX2_kinds_0 4 rfl rfl)
theorem dX2_kinds_5 : decode cX2_kinds 5 = .ok (.iconst 5, 1) := dk_8 (dk_at dksX2_kinds_0 5 rfl rfl)
theorem dX2_kinds_6 : decode cX2_kinds 6 = .ok (.if_icmp .ge 29, 3) := dk_162 0 29 (dk_at dksX2_kinds_0 6 rfl rfl)
theorem dX2_kinds_9 : decode cX2_kinds 9 = .ok (.iload_n 1, 1) := dk_27 (dk_at dksX2_kinds_0 9 rfl rfl)
theorem dX2_kinds_10 : decode cX2_kinds 10 = .ok (.aload_n 0, 1) := dk_42 (dk_at dksX2_kinds_0 10 rfl rfl)
theorem dX2_kinds_11 : decode cX2_kinds 11 = .ok (.getfield 60, 3) := dk_180 0 60 (dk_at dksX2_kinds_0 11 rfl rfl)
theorem dX2_kinds_14 : decode cX2_kinds 14 = .ok (.iload_n 2, 1) := dk_28 (dk_at dksX2_kinds_0 14 rfl rfl)
theorem dX2_kinds_15 : decode cX2_kinds 15 = .ok (.iaload, 1) := dk_46 (dk_at dksX2_kinds_0 15 rfl rfl)
theorem dX2_kinds_16 : decode cX2_kinds 16 = .ok (.ifCond .le 7, 3) := dk_158 0 7 (dk_at dksX2_kinds_0 16 rfl rfl)
theorem dX2_kinds_19 : decode cX2_kinds 19 = .ok (.iconst 1, 1) := dk_4 (dk_at dksX2_kinds_0 19 rfl rfl)
theorem dX2_kinds_20 : decode cX2_kinds 20 = .ok (.goto 4, 3) := dk_167 0 4 (dk_at dksX2_kinds_0 20 rfl rfl)
theorem dX2_kinds_23 : decode cX2_kinds 23 = .ok (.iconst 0, 1) := dk_3 (dk_at dksX2_kinds_0 23 rfl rfl)
theorem dX2_kinds_24 : decode cX2_kinds 24 = .ok (.invokestatic 177, 3) := dk_184 0 177 (dk_at dksX2_kinds_1 0 rfl rfl)
theorem dX2_kinds_27 : decode cX2_kinds 27 = .ok (.iadd, 1) := dk_96 (dk_at dksX2_kinds_1 3 rfl rfl)
theorem dX2_kinds_28 : decode cX2_kinds 28 = .ok (.istore_n 1, 1) := dk_60 (dk_at dksX2_kinds_1 4 rfl rfl)
theorem dX2_kinds_29 : decode cX2_kinds 29 = .ok (.iinc 2 1, 3) := dk_132 2 1 (dk_at dksX2_kinds_1 5 rfl rfl)
theorem dX2_kinds_32 : decode cX2_kinds 32 = .ok (.goto (-28), 3) := dk_167 255 228 (dk_at dksX2_kinds_1 8 rfl rfl)
theorem dX2_kinds_35 : decode cX2_kinds 35 = .ok (.iload_n 1, 1) := dk_27 (dk_at dksX2_kinds_1 11 rfl rfl)
theorem dX2_kinds_36 : decode cX2_kinds 36 = .ok (.ireturn, 1) := dk_172 (dk_at dksX2_kinds_1 12 rfl rfl)
abbrev cX2_scores : ByteArray := prog_8_method_18_code
def yX2_scores : MethodName := ⟨RX2, "scores", "(I)V"⟩
def dkwX2_scores_1 : List UInt8 := [180, 0, 34, 7, 42, 180, 0, 95, 17, 1, 104, 108, 104, 27, 96, 92, 46, 4, 96, 79, 177]
abbrev dktX2_scores_1 : List UInt8 := dkwX2_scores_1 ++ []
def dkwX2_scores_0 : List UInt8 := [42, 180, 0, 31, 27, 92, 46, 4, 96, 79, 42, 180, 0, 95, 17, 1, 104, 108, 5, 162, 0, 24, 42]
abbrev dktX2_scores_0 : List UInt8 := dkwX2_scores_0 ++ dktX2_scores_1
theorem dksX2_scores_0 : cX2_scores.data.toList.drop 0 = dktX2_scores_0 := by decide +kernel
theorem dksX2_scores_1 : cX2_scores.data.toList.drop 23 = dktX2_scores_1 := dk_seg dksX2_scores_0 23 rfl rfl
theorem dX2_scores_0 : decode cX2_scores 0 = .ok (.aload_n 0, 1) := dk_42 (dk_at dksX2_scores_0 0 rfl rfl)
theorem dX2_scores_1 : decode cX2_scores 1 = .ok (.getfield 31, 3) := dk_180 0 31 (dk_at dksX2_scores_0 1 rfl rfl)
theorem dX2_scores_4 : decode cX2_scores 4 = .ok (.iload_n 1, 1) := dk_27 (dk_at dksX2_scores_0 4 rfl rfl)
theorem dX2_scores_5 : decode cX2_scores 5 = .ok (.dup2, 1) := dk_92 (dk_at dksX2_scores_0 5 rfl rfl)
theorem dX2_scores_6 : decode cX2_scores 6 = .ok (.iaload, 1) := dk_46 (dk_at dksX2_scores_0 6 rfl rfl)
theorem dX2_scores_7 : decode cX2_scores 7 = .ok (.iconst 1, 1) := dk_4 (dk_at dksX2_scores_0 7 rfl rfl)
theorem dX2_scores_8 : decode cX2_scores 8 = .ok (.iadd, 1) := dk_96 (dk_at dksX2_scores_0 8 rfl rfl)
theorem dX2_scores_9 : decode cX2_scores 9 = .ok (.iastore, 1) := dk_79 (dk_at dksX2_scores_0 9 rfl rfl)
theorem dX2_scores_10 : decode cX2_scores 10 = .ok (.aload_n 0, 1) := dk_42 (dk_at dksX2_scores_0 10 rfl rfl)
theorem dX2_scores_11 : decode cX2_scores 11 = .ok (.getfield 95, 3) := dk_180 0 95 (dk_at dksX2_scores_0 11 rfl rfl)
theorem dX2_scores_14 : decode cX2_scores 14 = .ok (.sipush 360, 3) := dk_17 1 104 (dk_at dksX2_scores_0 14 rfl rfl)
theorem dX2_scores_17 : decode cX2_scores 17 = .ok (.idiv, 1) := dk_108 (dk_at dksX2_scores_0 17 rfl rfl)
theorem dX2_scores_18 : decode cX2_scores 18 = .ok (.iconst 2, 1) := dk_5 (dk_at dksX2_scores_0 18 rfl rfl)
theorem dX2_scores_19 : decode cX2_scores 19 = .ok (.if_icmp .ge 24, 3) := dk_162 0 24 (dk_at dksX2_scores_0 19 rfl rfl)
theorem dX2_scores_22 : decode cX2_scores 22 = .ok (.aload_n 0, 1) := dk_42 (dk_at dksX2_scores_0 22 rfl rfl)
theorem dX2_scores_23 : decode cX2_scores 23 = .ok (.getfield 34, 3) := dk_180 0 34 (dk_at dksX2_scores_1 0 rfl rfl)
theorem dX2_scores_26 : decode cX2_scores 26 = .ok (.iconst 4, 1) := dk_7 (dk_at dksX2_scores_1 3 rfl rfl)
theorem dX2_scores_27 : decode cX2_scores 27 = .ok (.aload_n 0, 1) := dk_42 (dk_at dksX2_scores_1 4 rfl rfl)
theorem dX2_scores_28 : decode cX2_scores 28 = .ok (.getfield 95, 3) := dk_180 0 95 (dk_at dksX2_scores_1 5 rfl rfl)
theorem dX2_scores_31 : decode cX2_scores 31 = .ok (.sipush 360, 3) := dk_17 1 104 (dk_at dksX2_scores_1 8 rfl rfl)
theorem dX2_scores_34 : decode cX2_scores 34 = .ok (.idiv, 1) := dk_108 (dk_at dksX2_scores_1 11 rfl rfl)
theorem dX2_scores_35 : decode cX2_scores 35 = .ok (.imul, 1) := dk_104 (dk_at dksX2_scores_1 12 rfl rfl)
theorem dX2_scores_36 : decode cX2_scores 36 = .ok (.iload_n 1, 1) := dk_27 (dk_at dksX2_scores_1 13 rfl rfl)
theorem dX2_scores_37 : decode cX2_scores 37 = .ok (.iadd, 1) := dk_96 (dk_at dksX2_scores_1 14 rfl rfl)
theorem dX2_scores_38 : decode cX2_scores 38 = .ok (.dup2, 1) := dk_92 (dk_at dksX2_scores_1 15 rfl rfl)
theorem dX2_scores_39 : decode cX2_scores 39 = .ok (.iaload, 1) := dk_46 (dk_at dksX2_scores_1 16 rfl rfl)
theorem dX2_scores_40 : decode cX2_scores 40 = .ok (.iconst 1, 1) := dk_4 (dk_at dksX2_scores_1 17 rfl rfl)
theorem dX2_scores_41 : decode cX2_scores 41 = .ok (.iadd, 1) := dk_96 (dk_at dksX2_scores_1 18 rfl rfl)
theorem dX2_scores_42 : decode cX2_scores 42 = .ok (.iastore, 1) := dk_79 (dk_at dksX2_scores_1 19 rfl rfl)
theorem dX2_scores_43 : decode cX2_scores 43 = .ok (.return_, 1) := dk_177 (dk_at dksX2_scores_1 20 rfl rfl)
abbrev cX2_meets : ByteArray := prog_8_method_19_code
def yX2_meets : MethodName := ⟨RX2, "meets", "(III)V"⟩
def dkwX2_meets_6 : List UInt8 := [132, 6, 1, 167, 255, 168, 132, 4, 1, 167, 255, 108, 177]
abbrev dktX2_meets_6 : List UInt8 := dkwX2_meets_6 ++ []
def dkwX2_meets_5 : List UInt8 := [29, 159, 0, 21, 42, 180, 0, 41, 16, 24, 21, 4, 104, 21, 6, 96, 92, 53, 4, 96, 147, 86]
abbrev dktX2_meets_5 : List UInt8 := dkwX2_meets_5 ++ dktX2_meets_6
def dkwX2_meets_4 : List UInt8 := [104, 21, 6, 96, 92, 53, 4, 96, 147, 86, 21, 5, 153, 0, 34, 42, 21, 6, 182, 0, 72, 180, 0, 159]
abbrev dktX2_meets_4 : List UInt8 := dkwX2_meets_4 ++ dktX2_meets_5
def dkwX2_meets_3 : List UInt8 := [21, 6, 182, 0, 72, 27, 28, 182, 0, 155, 154, 0, 6, 167, 0, 57, 42, 180, 0, 37, 16, 24, 21, 4]
abbrev dktX2_meets_3 : List UInt8 := dkwX2_meets_3 ++ dktX2_meets_4
def dkwX2_meets_2 : List UInt8 := [167, 0, 4, 3, 54, 5, 3, 54, 6, 21, 6, 42, 180, 0, 14, 185, 0, 64, 1, 0, 162, 0, 80, 42]
abbrev dktX2_meets_2 : List UInt8 := dkwX2_meets_2 ++ dktX2_meets_3
def dkwX2_meets_1 : List UInt8 := [28, 182, 0, 155, 154, 0, 6, 167, 0, 117, 42, 21, 4, 182, 0, 72, 180, 0, 159, 29, 160, 0, 7, 4]
abbrev dktX2_meets_1 : List UInt8 := dkwX2_meets_1 ++ dktX2_meets_2
def dkwX2_meets_0 : List UInt8 := [3, 54, 4, 21, 4, 42, 180, 0, 14, 185, 0, 64, 1, 0, 162, 0, 140, 42, 21, 4, 182, 0, 72, 27]
abbrev dktX2_meets_0 : List UInt8 := dkwX2_meets_0 ++ dktX2_meets_1
theorem dksX2_meets_0 : cX2_meets.data.toList.drop 0 = dktX2_meets_0 := by decide +kernel
theorem dksX2_meets_1 : cX2_meets.data.toList.drop 24 = dktX2_meets_1 := dk_seg dksX2_meets_0 24 rfl rfl
theorem dksX2_meets_2 : cX2_meets.data.toList.drop 48 = dktX2_meets_2 := dk_seg dksX2_meets_1 24 rfl rfl
theorem dksX2_meets_3 : cX2_meets.data.toList.drop 72 = dktX2_meets_3 := dk_seg dksX2_meets_2 24 rfl rfl
theorem dksX2_meets_4 : cX2_meets.data.toList.drop 96 = dktX2_meets_4 := dk_seg dksX2_meets_3 24 rfl rfl
theorem dksX2_meets_5 : cX2_meets.data.toList.drop 120 = dktX2_meets_5 := dk_seg dksX2_meets_4 24 rfl rfl
theorem dksX2_meets_6 : cX2_meets.data.toList.drop 142 = dktX2_meets_6 := dk_seg dksX2_meets_5 22 rfl rfl
theorem dX2_meets_0 : decode cX2_meets 0 = .ok (.iconst 0, 1) := dk_3 (dk_at dksX2_meets_0 0 rfl rfl)
theorem dX2_meets_1 : decode cX2_meets 1 = .ok (.istore 4, 2) := dk_54 4 (dk_at dksX2_meets_0 1 rfl rfl)
theorem dX2_meets_3 : decode cX2_meets 3 = .ok (.iload 4, 2) := dk_21 4 (dk_at dksX2_meets_0 3 rfl rfl)
theorem dX2_meets_5 : decode cX2_meets 5 = .ok (.aload_n 0, 1) := dk_42 (dk_at dksX2_meets_0 5 rfl rfl)
theorem dX2_meets_6 : decode cX2_meets 6 = .ok (.getfield 14, 3) := dk_180 0 14 (dk_at dksX2_meets_0 6 rfl rfl)
theorem dX2_meets_9 : decode cX2_meets 9 = .ok (.invokeinterface 64 1, 5) := by decide +kernel
theorem dX2_meets_14 : decode cX2_meets 14 = .ok (.if_icmp .ge 140, 3) := dk_162 0 140 (dk_at dksX2_meets_0 14 rfl rfl)
theorem dX2_meets_17 : decode cX2_meets 17 = .ok (.aload_n 0, 1) := dk_42 (dk_at dksX2_meets_0 17 rfl rfl)
theorem dX2_meets_18 : decode cX2_meets 18 = .ok (.iload 4, 2) := dk_21 4 (dk_at dksX2_meets_0 18 rfl rfl)
theorem dX2_meets_20 : decode cX2_meets 20 = .ok (.invokevirtual 72, 3) := dk_182 0 72 (dk_at dksX2_meets_0 20 rfl rfl)
theorem dX2_meets_23 : decode cX2_meets 23 = .ok (.iload_n 1, 1) := dk_27 (dk_at dksX2_meets_0 23 rfl rfl)
theorem dX2_meets_24 : decode cX2_meets 24 = .ok (.iload_n 2, 1) := dk_28 (dk_at dksX2_meets_1 0 rfl rfl)
theorem dX2_meets_25 : decode cX2_meets 25 = .ok (.invokevirtual 155, 3) := dk_182 0 155 (dk_at dksX2_meets_1 1 rfl rfl)
theorem dX2_meets_28 : decode cX2_meets 28 = .ok (.ifCond .ne 6, 3) := dk_154 0 6 (dk_at dksX2_meets_1 4 rfl rfl)
theorem dX2_meets_31 : decode cX2_meets 31 = .ok (.goto 117, 3) := dk_167 0 117 (dk_at dksX2_meets_1 7 rfl rfl)
theorem dX2_meets_34 : decode cX2_meets 34 = .ok (.aload_n 0, 1) := dk_42 (dk_at dksX2_meets_1 10 rfl rfl)
theorem dX2_meets_35 : decode cX2_meets 35 = .ok (.iload 4, 2) := dk_21 4 (dk_at dksX2_meets_1 11 rfl rfl)
theorem dX2_meets_37 : decode cX2_meets 37 = .ok (.invokevirtual 72, 3) := dk_182 0 72 (dk_at dksX2_meets_1 13 rfl rfl)
theorem dX2_meets_40 : decode cX2_meets 40 = .ok (.getfield 159, 3) := dk_180 0 159 (dk_at dksX2_meets_1 16 rfl rfl)
theorem dX2_meets_43 : decode cX2_meets 43 = .ok (.iload_n 3, 1) := dk_29 (dk_at dksX2_meets_1 19 rfl rfl)
theorem dX2_meets_44 : decode cX2_meets 44 = .ok (.if_icmp .ne 7, 3) := dk_160 0 7 (dk_at dksX2_meets_1 20 rfl rfl)
theorem dX2_meets_47 : decode cX2_meets 47 = .ok (.iconst 1, 1) := dk_4 (dk_at dksX2_meets_1 23 rfl rfl)
theorem dX2_meets_48 : decode cX2_meets 48 = .ok (.goto 4, 3) := dk_167 0 4 (dk_at dksX2_meets_2 0 rfl rfl)
theorem dX2_meets_51 : decode cX2_meets 51 = .ok (.iconst 0, 1) := dk_3 (dk_at dksX2_meets_2 3 rfl rfl)
theorem dX2_meets_52 : decode cX2_meets 52 = .ok (.istore 5, 2) := dk_54 5 (dk_at dksX2_meets_2 4 rfl rfl)
theorem dX2_meets_54 : decode cX2_meets 54 = .ok (.iconst 0, 1) := dk_3 (dk_at dksX2_meets_2 6 rfl rfl)
theorem dX2_meets_55 : decode cX2_meets 55 = .ok (.istore 6, 2) := dk_54 6 (dk_at dksX2_meets_2 7 rfl rfl)
theorem dX2_meets_57 : decode cX2_meets 57 = .ok (.iload 6, 2) := dk_21 6 (dk_at dksX2_meets_2 9 rfl rfl)
theorem dX2_meets_59 : decode cX2_meets 59 = .ok (.aload_n 0, 1) := dk_42 (dk_at dksX2_meets_2 11 rfl rfl)
theorem dX2_meets_60 : decode cX2_meets 60 = .ok (.getfield 14, 3) := dk_180 0 14 (dk_at dksX2_meets_2 12 rfl rfl)
theorem dX2_meets_63 : decode cX2_meets 63 = .ok (.invokeinterface 64 1, 5) := by decide +kernel
theorem dX2_meets_68 : decode cX2_meets 68 = .ok (.if_icmp .ge 80, 3) := dk_162 0 80 (dk_at dksX2_meets_2 20 rfl rfl)
theorem dX2_meets_71 : decode cX2_meets 71 = .ok (.aload_n 0, 1) := dk_42 (dk_at dksX2_meets_2 23 rfl rfl)
theorem dX2_meets_72 : decode cX2_meets 72 = .ok (.iload 6, 2) := dk_21 6 (dk_at dksX2_meets_3 0 rfl rfl)
theorem dX2_meets_74 : decode cX2_meets 74 = .ok (.invokevirtual 72, 3) := dk_182 0 72 (dk_at dksX2_meets_3 2 rfl rfl)
theorem dX2_meets_77 : decode cX2_meets 77 = .ok (.iload_n 1, 1) := dk_27 (dk_at dksX2_meets_3 5 rfl rfl)
theorem dX2_meets_78 : decode cX2_meets 78 = .ok (.iload_n 2, 1) := dk_28 (dk_at dksX2_meets_3 6 rfl rfl)
theorem dX2_meets_79 : decode cX2_meets 79 = .ok (.invokevirtual 155, 3) := dk_182 0 155 (dk_at dksX2_meets_3 7 rfl rfl)
theorem dX2_meets_82 : decode cX2_meets 82 = .ok (.ifCond .ne 6, 3) := dk_154 0 6 (dk_at dksX2_meets_3 10 rfl rfl)
theorem dX2_meets_85 : decode cX2_meets 85 = .ok (.goto 57, 3) := dk_167 0 57 (dk_at dksX2_meets_3 13 rfl rfl)
theorem dX2_meets_88 : decode cX2_meets 88 = .ok (.aload_n 0, 1) := dk_42 (dk_at dksX2_meets_3 16 rfl rfl)
theorem dX2_meets_89 : decode cX2_meets 89 = .ok (.getfield 37, 3) := dk_180 0 37 (dk_at dksX2_meets_3 17 rfl rfl)
theorem dX2_meets_92 : decode cX2_meets 92 = .ok (.bipush 24, 2) := dk_16 24 (dk_at dksX2_meets_3 20 rfl rfl)
theorem dX2_meets_94 : decode cX2_meets 94 = .ok (.iload 4, 2) := dk_21 4 (dk_at dksX2_meets_3 22 rfl rfl)
theorem dX2_meets_96 : decode cX2_meets 96 = .ok (.imul, 1) := dk_104 (dk_at dksX2_meets_4 0 rfl rfl)
theorem dX2_meets_97 : decode cX2_meets 97 = .ok (.iload 6, 2) := dk_21 6 (dk_at dksX2_meets_4 1 rfl rfl)
theorem dX2_meets_99 : decode cX2_meets 99 = .ok (.iadd, 1) := dk_96 (dk_at dksX2_meets_4 3 rfl rfl)
theorem dX2_meets_100 : decode cX2_meets 100 = .ok (.dup2, 1) := dk_92 (dk_at dksX2_meets_4 4 rfl rfl)
theorem dX2_meets_101 : decode cX2_meets 101 = .ok (.saload, 1) := dk_53 (dk_at dksX2_meets_4 5 rfl rfl)
theorem dX2_meets_102 : decode cX2_meets 102 = .ok (.iconst 1, 1) := dk_4 (dk_at dksX2_meets_4 6 rfl rfl)
theorem dX2_meets_103 : decode cX2_meets 103 = .ok (.iadd, 1) := dk_96 (dk_at dksX2_meets_4 7 rfl rfl)
theorem dX2_meets_104 : decode cX2_meets 104 = .ok (.i2s, 1) := dk_147 (dk_at dksX2_meets_4 8 rfl rfl)
theorem dX2_meets_105 : decode cX2_meets 105 = .ok (.sastore, 1) := dk_86 (dk_at dksX2_meets_4 9 rfl rfl)
theorem dX2_meets_106 : decode cX2_meets 106 = .ok (.iload 5, 2) := dk_21 5 (dk_at dksX2_meets_4 10 rfl rfl)
theorem dX2_meets_108 : decode cX2_meets 108 = .ok (.ifCond .eq 34, 3) := dk_153 0 34 (dk_at dksX2_meets_4 12 rfl rfl)
theorem dX2_meets_111 : decode cX2_meets 111 = .ok (.aload_n 0, 1) := dk_42 (dk_at dksX2_meets_4 15 rfl rfl)
theorem dX2_meets_112 : decode cX2_meets 112 = .ok (.iload 6, 2) := dk_21 6 (dk_at dksX2_meets_4 16 rfl rfl)
theorem dX2_meets_114 : decode cX2_meets 114 = .ok (.invokevirtual 72, 3) := dk_182 0 72 (dk_at dksX2_meets_4 18 rfl rfl)
theorem dX2_meets_117 : decode cX2_meets 117 = .ok (.getfield 159, 3) := dk_180 0 159 (dk_at dksX2_meets_4 21 rfl rfl)
theorem dX2_meets_120 : decode cX2_meets 120 = .ok (.iload_n 3, 1) := dk_29 (dk_at dksX2_meets_5 0 rfl rfl)
theorem dX2_meets_121 : decode cX2_meets 121 = .ok (.if_icmp .eq 21, 3) := dk_159 0 21 (dk_at dksX2_meets_5 1 rfl rfl)
theorem dX2_meets_124 : decode cX2_meets 124 = .ok (.aload_n 0, 1) := dk_42 (dk_at dksX2_meets_5 4 rfl rfl)
theorem dX2_meets_125 : decode cX2_meets 125 = .ok (.getfield 41, 3) := dk_180 0 41 (dk_at dksX2_meets_5 5 rfl rfl)
theorem dX2_meets_128 : decode cX2_meets 128 = .ok (.bipush 24, 2) := dk_16 24 (dk_at dksX2_meets_5 8 rfl rfl)
theorem dX2_meets_130 : decode cX2_meets 130 = .ok (.iload 4, 2) := dk_21 4 (dk_at dksX2_meets_5 10 rfl rfl)
theorem dX2_meets_132 : decode cX2_meets 132 = .ok (.imul, 1) := dk_104 (dk_at dksX2_meets_5 12 rfl rfl)
theorem dX2_meets_133 : decode cX2_meets 133 = .ok (.iload 6, 2) := dk_21 6 (dk_at dksX2_meets_5 13 rfl rfl)
theorem dX2_meets_135 : decode cX2_meets 135 = .ok (.iadd, 1) := dk_96 (dk_at dksX2_meets_5 15 rfl rfl)
theorem dX2_meets_136 : decode cX2_meets 136 = .ok (.dup2, 1) := dk_92 (dk_at dksX2_meets_5 16 rfl rfl)
theorem dX2_meets_137 : decode cX2_meets 137 = .ok (.saload, 1) := dk_53 (dk_at dksX2_meets_5 17 rfl rfl)
theorem dX2_meets_138 : decode cX2_meets 138 = .ok (.iconst 1, 1) := dk_4 (dk_at dksX2_meets_5 18 rfl rfl)
theorem dX2_meets_139 : decode cX2_meets 139 = .ok (.iadd, 1) := dk_96 (dk_at dksX2_meets_5 19 rfl rfl)
theorem dX2_meets_140 : decode cX2_meets 140 = .ok (.i2s, 1) := dk_147 (dk_at dksX2_meets_5 20 rfl rfl)
theorem dX2_meets_141 : decode cX2_meets 141 = .ok (.sastore, 1) := dk_86 (dk_at dksX2_meets_5 21 rfl rfl)
theorem dX2_meets_142 : decode cX2_meets 142 = .ok (.iinc 6 1, 3) := dk_132 6 1 (dk_at dksX2_meets_6 0 rfl rfl)
theorem dX2_meets_145 : decode cX2_meets 145 = .ok (.goto (-88), 3) := dk_167 255 168 (dk_at dksX2_meets_6 3 rfl rfl)
theorem dX2_meets_148 : decode cX2_meets 148 = .ok (.iinc 4 1, 3) := dk_132 4 1 (dk_at dksX2_meets_6 6 rfl rfl)
theorem dX2_meets_151 : decode cX2_meets 151 = .ok (.goto (-148), 3) := dk_167 255 108 (dk_at dksX2_meets_6 9 rfl rfl)
theorem dX2_meets_154 : decode cX2_meets 154 = .ok (.return_, 1) := dk_177 (dk_at dksX2_meets_6 12 rfl rfl)
abbrev cX2_learns : ByteArray := prog_8_method_20_code
def yX2_learns : MethodName := ⟨RX2, "learns", "(III)V"⟩
def dkwX2_learns_4 : List UInt8 := [132, 4, 1, 167, 255, 164, 177]
abbrev dktX2_learns_4 : List UInt8 := dkwX2_learns_4 ++ []
def dkwX2_learns_3 : List UInt8 := [180, 0, 31, 25, 5, 180, 0, 159, 29, 160, 0, 7, 7, 167, 0, 4, 8, 92, 46, 4, 96, 79]
abbrev dktX2_learns_3 : List UInt8 := dkwX2_learns_3 ++ dktX2_learns_4
def dkwX2_learns_2 : List UInt8 := [160, 0, 7, 4, 167, 0, 4, 3, 42, 180, 0, 27, 4, 46, 42, 180, 0, 27, 5, 46, 182, 0, 181, 42]
abbrev dktX2_learns_2 : List UInt8 := dkwX2_learns_2 ++ dktX2_learns_3
def dkwX2_learns_1 : List UInt8 := [58, 5, 25, 5, 27, 28, 182, 0, 155, 154, 0, 6, 167, 0, 57, 25, 5, 25, 5, 180, 0, 159, 29]
abbrev dktX2_learns_1 : List UInt8 := dkwX2_learns_1 ++ dktX2_learns_2
def dkwX2_learns_0 : List UInt8 := [3, 54, 4, 21, 4, 42, 180, 0, 14, 185, 0, 64, 1, 0, 162, 0, 84, 42, 21, 4, 182, 0, 72]
abbrev dktX2_learns_0 : List UInt8 := dkwX2_learns_0 ++ dktX2_learns_1
theorem dksX2_learns_0 : cX2_learns.data.toList.drop 0 = dktX2_learns_0 := by decide +kernel
theorem dksX2_learns_1 : cX2_learns.data.toList.drop 23 = dktX2_learns_1 := dk_seg dksX2_learns_0 23 rfl rfl
theorem dksX2_learns_2 : cX2_learns.data.toList.drop 46 = dktX2_learns_2 := dk_seg dksX2_learns_1 23 rfl rfl
theorem dksX2_learns_3 : cX2_learns.data.toList.drop 70 = dktX2_learns_3 := dk_seg dksX2_learns_2 24 rfl rfl
theorem dksX2_learns_4 : cX2_learns.data.toList.drop 92 = dktX2_learns_4 := dk_seg dksX2_learns_3 22 rfl rfl
theorem dX2_learns_0 : decode cX2_learns 0 = .ok (.iconst 0, 1) := dk_3 (dk_at dksX2_learns_0 0 rfl rfl)
theorem dX2_learns_1 : decode cX2_learns 1 = .ok (.istore 4, 2) := dk_54 4 (dk_at dksX2_learns_0 1 rfl rfl)
theorem dX2_learns_3 : decode cX2_learns 3 = .ok (.iload 4, 2) := dk_21 4 (dk_at dksX2_learns_0 3 rfl rfl)
theorem dX2_learns_5 : decode cX2_learns 5 = .ok (.aload_n 0, 1) := dk_42 (dk_at dksX2_learns_0 5 rfl rfl)
theorem dX2_learns_6 : decode cX2_learns 6 = .ok (.getfield 14, 3) := dk_180 0 14 (dk_at dksX2_learns_0 6 rfl rfl)
theorem dX2_learns_9 : decode cX2_learns 9 = .ok (.invokeinterface 64 1, 5) := by decide +kernel
theorem dX2_learns_14 : decode cX2_learns 14 = .ok (.if_icmp .ge 84, 3) := dk_162 0 84 (dk_at dksX2_learns_0 14 rfl rfl)
theorem dX2_learns_17 : decode cX2_learns 17 = .ok (.aload_n 0, 1) := dk_42 (dk_at dksX2_learns_0 17 rfl rfl)
theorem dX2_learns_18 : decode cX2_learns 18 = .ok (.iload 4, 2) := dk_21 4 (dk_at dksX2_learns_0 18 rfl rfl)
theorem dX2_learns_20 : decode cX2_learns 20 = .ok (.invokevirtual 72, 3) := dk_182 0 72 (dk_at dksX2_learns_0 20 rfl rfl)
theorem dX2_learns_23 : decode cX2_learns 23 = .ok (.astore 5, 2) := dk_58 5 (dk_at dksX2_learns_1 0 rfl rfl)
theorem dX2_learns_25 : decode cX2_learns 25 = .ok (.aload 5, 2) := dk_25 5 (dk_at dksX2_learns_1 2 rfl rfl)
theorem dX2_learns_27 : decode cX2_learns 27 = .ok (.iload_n 1, 1) := dk_27 (dk_at dksX2_learns_1 4 rfl rfl)
theorem dX2_learns_28 : decode cX2_learns 28 = .ok (.iload_n 2, 1) := dk_28 (dk_at dksX2_learns_1 5 rfl rfl)
theorem dX2_learns_29 : decode cX2_learns 29 = .ok (.invokevirtual 155, 3) := dk_182 0 155 (dk_at dksX2_learns_1 6 rfl rfl)
theorem dX2_learns_32 : decode cX2_learns 32 = .ok (.ifCond .ne 6, 3) := dk_154 0 6 (dk_at dksX2_learns_1 9 rfl rfl)
theorem dX2_learns_35 : decode cX2_learns 35 = .ok (.goto 57, 3) := dk_167 0 57 (dk_at dksX2_learns_1 12 rfl rfl)
theorem dX2_learns_38 : decode cX2_learns 38 = .ok (.aload 5, 2) := dk_25 5 (dk_at dksX2_learns_1 15 rfl rfl)
theorem dX2_learns_40 : decode cX2_learns 40 = .ok (.aload 5, 2) := dk_25 5 (dk_at dksX2_learns_1 17 rfl rfl)
theorem dX2_learns_42 : decode cX2_learns 42 = .ok (.getfield 159, 3) := dk_180 0 159 (dk_at dksX2_learns_1 19 rfl rfl)
theorem dX2_learns_45 : decode cX2_learns 45 = .ok (.iload_n 3, 1) := dk_29 (dk_at dksX2_learns_1 22 rfl rfl)
theorem dX2_learns_46 : decode cX2_learns 46 = .ok (.if_icmp .ne 7, 3) := dk_160 0 7 (dk_at dksX2_learns_2 0 rfl rfl)
theorem dX2_learns_49 : decode cX2_learns 49 = .ok (.iconst 1, 1) := dk_4 (dk_at dksX2_learns_2 3 rfl rfl)
theorem dX2_learns_50 : decode cX2_learns 50 = .ok (.goto 4, 3) := dk_167 0 4 (dk_at dksX2_learns_2 4 rfl rfl)
theorem dX2_learns_53 : decode cX2_learns 53 = .ok (.iconst 0, 1) := dk_3 (dk_at dksX2_learns_2 7 rfl rfl)
theorem dX2_learns_54 : decode cX2_learns 54 = .ok (.aload_n 0, 1) := dk_42 (dk_at dksX2_learns_2 8 rfl rfl)
theorem dX2_learns_55 : decode cX2_learns 55 = .ok (.getfield 27, 3) := dk_180 0 27 (dk_at dksX2_learns_2 9 rfl rfl)
theorem dX2_learns_58 : decode cX2_learns 58 = .ok (.iconst 1, 1) := dk_4 (dk_at dksX2_learns_2 12 rfl rfl)
theorem dX2_learns_59 : decode cX2_learns 59 = .ok (.iaload, 1) := dk_46 (dk_at dksX2_learns_2 13 rfl rfl)
theorem dX2_learns_60 : decode cX2_learns 60 = .ok (.aload_n 0, 1) := dk_42 (dk_at dksX2_learns_2 14 rfl rfl)
theorem dX2_learns_61 : decode cX2_learns 61 = .ok (.getfield 27, 3) := dk_180 0 27 (dk_at dksX2_learns_2 15 rfl rfl)
theorem dX2_learns_64 : decode cX2_learns 64 = .ok (.iconst 2, 1) := dk_5 (dk_at dksX2_learns_2 18 rfl rfl)
theorem dX2_learns_65 : decode cX2_learns 65 = .ok (.iaload, 1) := dk_46 (dk_at dksX2_learns_2 19 rfl rfl)
theorem dX2_learns_66 : decode cX2_learns 66 = .ok (.invokevirtual 181, 3) := dk_182 0 181 (dk_at dksX2_learns_2 20 rfl rfl)
theorem dX2_learns_69 : decode cX2_learns 69 = .ok (.aload_n 0, 1) := dk_42 (dk_at dksX2_learns_2 23 rfl rfl)
theorem dX2_learns_70 : decode cX2_learns 70 = .ok (.getfield 31, 3) := dk_180 0 31 (dk_at dksX2_learns_3 0 rfl rfl)
theorem dX2_learns_73 : decode cX2_learns 73 = .ok (.aload 5, 2) := dk_25 5 (dk_at dksX2_learns_3 3 rfl rfl)
theorem dX2_learns_75 : decode cX2_learns 75 = .ok (.getfield 159, 3) := dk_180 0 159 (dk_at dksX2_learns_3 5 rfl rfl)
theorem dX2_learns_78 : decode cX2_learns 78 = .ok (.iload_n 3, 1) := dk_29 (dk_at dksX2_learns_3 8 rfl rfl)
theorem dX2_learns_79 : decode cX2_learns 79 = .ok (.if_icmp .ne 7, 3) := dk_160 0 7 (dk_at dksX2_learns_3 9 rfl rfl)
theorem dX2_learns_82 : decode cX2_learns 82 = .ok (.iconst 4, 1) := dk_7 (dk_at dksX2_learns_3 12 rfl rfl)
theorem dX2_learns_83 : decode cX2_learns 83 = .ok (.goto 4, 3) := dk_167 0 4 (dk_at dksX2_learns_3 13 rfl rfl)
theorem dX2_learns_86 : decode cX2_learns 86 = .ok (.iconst 5, 1) := dk_8 (dk_at dksX2_learns_3 16 rfl rfl)
theorem dX2_learns_87 : decode cX2_learns 87 = .ok (.dup2, 1) := dk_92 (dk_at dksX2_learns_3 17 rfl rfl)
theorem dX2_learns_88 : decode cX2_learns 88 = .ok (.iaload, 1) := dk_46 (dk_at dksX2_learns_3 18 rfl rfl)
theorem dX2_learns_89 : decode cX2_learns 89 = .ok (.iconst 1, 1) := dk_4 (dk_at dksX2_learns_3 19 rfl rfl)
theorem dX2_learns_90 : decode cX2_learns 90 = .ok (.iadd, 1) := dk_96 (dk_at dksX2_learns_3 20 rfl rfl)
theorem dX2_learns_91 : decode cX2_learns 91 = .ok (.iastore, 1) := dk_79 (dk_at dksX2_learns_3 21 rfl rfl)
theorem dX2_learns_92 : decode cX2_learns 92 = .ok (.iinc 4 1, 3) := dk_132 4 1 (dk_at dksX2_learns_4 0 rfl rfl)
theorem dX2_learns_95 : decode cX2_learns 95 = .ok (.goto (-92), 3) := dk_167 255 164 (dk_at dksX2_learns_4 3 rfl rfl)
theorem dX2_learns_98 : decode cX2_learns 98 = .ok (.return_, 1) := dk_177 (dk_at dksX2_learns_4 6 rfl rfl)
abbrev cX2_forgets : ByteArray := prog_8_method_8_code
def yX2_forgets : MethodName := ⟨RX2, "forgets", "(I)I"⟩
def dkwX2_forgets_2 : List UInt8 := [182, 0, 146, 172]
abbrev dktX2_forgets_2 : List UInt8 := dkwX2_forgets_2 ++ []
def dkwX2_forgets_1 : List UInt8 := [182, 0, 142, 192, 0, 70, 77, 42, 180, 0, 31, 16, 7, 92, 46, 4, 96, 79, 42, 180, 0, 23]
abbrev dktX2_forgets_1 : List UInt8 := dkwX2_forgets_1 ++ dktX2_forgets_2
def dkwX2_forgets_0 : List UInt8 := [42, 27, 182, 0, 72, 4, 181, 0, 113, 42, 180, 0, 23, 42, 27, 182, 0, 72, 182, 0, 117, 184, 0, 120]
abbrev dktX2_forgets_0 : List UInt8 := dkwX2_forgets_0 ++ dktX2_forgets_1
theorem dksX2_forgets_0 : cX2_forgets.data.toList.drop 0 = dktX2_forgets_0 := by decide +kernel
theorem dksX2_forgets_1 : cX2_forgets.data.toList.drop 24 = dktX2_forgets_1 := dk_seg dksX2_forgets_0 24 rfl rfl
theorem dksX2_forgets_2 : cX2_forgets.data.toList.drop 46 = dktX2_forgets_2 := dk_seg dksX2_forgets_1 22 rfl rfl
theorem dX2_forgets_0 : decode cX2_forgets 0 = .ok (.aload_n 0, 1) := dk_42 (dk_at dksX2_forgets_0 0 rfl rfl)
theorem dX2_forgets_1 : decode cX2_forgets 1 = .ok (.iload_n 1, 1) := dk_27 (dk_at dksX2_forgets_0 1 rfl rfl)
theorem dX2_forgets_2 : decode cX2_forgets 2 = .ok (.invokevirtual 72, 3) := dk_182 0 72 (dk_at dksX2_forgets_0 2 rfl rfl)
theorem dX2_forgets_5 : decode cX2_forgets 5 = .ok (.iconst 1, 1) := dk_4 (dk_at dksX2_forgets_0 5 rfl rfl)
theorem dX2_forgets_6 : decode cX2_forgets 6 = .ok (.putfield 113, 3) := dk_181 0 113 (dk_at dksX2_forgets_0 6 rfl rfl)
theorem dX2_forgets_9 : decode cX2_forgets 9 = .ok (.aload_n 0, 1) := dk_42 (dk_at dksX2_forgets_0 9 rfl rfl)
theorem dX2_forgets_10 : decode cX2_forgets 10 = .ok (.getfield 23, 3) := dk_180 0 23 (dk_at dksX2_forgets_0 10 rfl rfl)
theorem dX2_forgets_13 : decode cX2_forgets 13 = .ok (.aload_n 0, 1) := dk_42 (dk_at dksX2_forgets_0 13 rfl rfl)
theorem dX2_forgets_14 : decode cX2_forgets 14 = .ok (.iload_n 1, 1) := dk_27 (dk_at dksX2_forgets_0 14 rfl rfl)
theorem dX2_forgets_15 : decode cX2_forgets 15 = .ok (.invokevirtual 72, 3) := dk_182 0 72 (dk_at dksX2_forgets_0 15 rfl rfl)
theorem dX2_forgets_18 : decode cX2_forgets 18 = .ok (.invokevirtual 117, 3) := dk_182 0 117 (dk_at dksX2_forgets_0 18 rfl rfl)
theorem dX2_forgets_21 : decode cX2_forgets 21 = .ok (.invokestatic 120, 3) := dk_184 0 120 (dk_at dksX2_forgets_0 21 rfl rfl)
theorem dX2_forgets_24 : decode cX2_forgets 24 = .ok (.invokevirtual 142, 3) := dk_182 0 142 (dk_at dksX2_forgets_1 0 rfl rfl)
theorem dX2_forgets_27 : decode cX2_forgets 27 = .ok (.checkcast 70, 3) := dk_192 0 70 (dk_at dksX2_forgets_1 3 rfl rfl)
theorem dX2_forgets_30 : decode cX2_forgets 30 = .ok (.astore_n 2, 1) := dk_77 (dk_at dksX2_forgets_1 6 rfl rfl)
theorem dX2_forgets_31 : decode cX2_forgets 31 = .ok (.aload_n 0, 1) := dk_42 (dk_at dksX2_forgets_1 7 rfl rfl)
theorem dX2_forgets_32 : decode cX2_forgets 32 = .ok (.getfield 31, 3) := dk_180 0 31 (dk_at dksX2_forgets_1 8 rfl rfl)
theorem dX2_forgets_35 : decode cX2_forgets 35 = .ok (.bipush 7, 2) := dk_16 7 (dk_at dksX2_forgets_1 11 rfl rfl)
theorem dX2_forgets_37 : decode cX2_forgets 37 = .ok (.dup2, 1) := dk_92 (dk_at dksX2_forgets_1 13 rfl rfl)
theorem dX2_forgets_38 : decode cX2_forgets 38 = .ok (.iaload, 1) := dk_46 (dk_at dksX2_forgets_1 14 rfl rfl)
theorem dX2_forgets_39 : decode cX2_forgets 39 = .ok (.iconst 1, 1) := dk_4 (dk_at dksX2_forgets_1 15 rfl rfl)
theorem dX2_forgets_40 : decode cX2_forgets 40 = .ok (.iadd, 1) := dk_96 (dk_at dksX2_forgets_1 16 rfl rfl)
theorem dX2_forgets_41 : decode cX2_forgets 41 = .ok (.iastore, 1) := dk_79 (dk_at dksX2_forgets_1 17 rfl rfl)
theorem dX2_forgets_42 : decode cX2_forgets 42 = .ok (.aload_n 0, 1) := dk_42 (dk_at dksX2_forgets_1 18 rfl rfl)
theorem dX2_forgets_43 : decode cX2_forgets 43 = .ok (.getfield 23, 3) := dk_180 0 23 (dk_at dksX2_forgets_1 19 rfl rfl)
theorem dX2_forgets_46 : decode cX2_forgets 46 = .ok (.invokevirtual 146, 3) := dk_182 0 146 (dk_at dksX2_forgets_2 0 rfl rfl)
theorem dX2_forgets_49 : decode cX2_forgets 49 = .ok (.ireturn, 1) := dk_172 (dk_at dksX2_forgets_2 3 rfl rfl)
abbrev cX2_weighs : ByteArray := prog_8_method_9_code
def yX2_weighs : MethodName := ⟨RX2, "weighs", "(II)I"⟩
def dkwX2_weighs_0 : List UInt8 := [42, 27, 182, 0, 72, 180, 0, 147, 62, 42, 27, 182, 0, 72, 28, 181, 0, 147, 29, 172]
abbrev dktX2_weighs_0 : List UInt8 := dkwX2_weighs_0 ++ []
theorem dksX2_weighs_0 : cX2_weighs.data.toList.drop 0 = dktX2_weighs_0 := by decide +kernel
theorem dX2_weighs_0 : decode cX2_weighs 0 = .ok (.aload_n 0, 1) := dk_42 (dk_at dksX2_weighs_0 0 rfl rfl)
theorem dX2_weighs_1 : decode cX2_weighs 1 = .ok (.iload_n 1, 1) := dk_27 (dk_at dksX2_weighs_0 1 rfl rfl)
theorem dX2_weighs_2 : decode cX2_weighs 2 = .ok (.invokevirtual 72, 3) := dk_182 0 72 (dk_at dksX2_weighs_0 2 rfl rfl)
theorem dX2_weighs_5 : decode cX2_weighs 5 = .ok (.getfield 147, 3) := dk_180 0 147 (dk_at dksX2_weighs_0 5 rfl rfl)
theorem dX2_weighs_8 : decode cX2_weighs 8 = .ok (.istore_n 3, 1) := dk_62 (dk_at dksX2_weighs_0 8 rfl rfl)
theorem dX2_weighs_9 : decode cX2_weighs 9 = .ok (.aload_n 0, 1) := dk_42 (dk_at dksX2_weighs_0 9 rfl rfl)
theorem dX2_weighs_10 : decode cX2_weighs 10 = .ok (.iload_n 1, 1) := dk_27 (dk_at dksX2_weighs_0 10 rfl rfl)
theorem dX2_weighs_11 : decode cX2_weighs 11 = .ok (.invokevirtual 72, 3) := dk_182 0 72 (dk_at dksX2_weighs_0 11 rfl rfl)
theorem dX2_weighs_14 : decode cX2_weighs 14 = .ok (.iload_n 2, 1) := dk_28 (dk_at dksX2_weighs_0 14 rfl rfl)
theorem dX2_weighs_15 : decode cX2_weighs 15 = .ok (.putfield 147, 3) := dk_181 0 147 (dk_at dksX2_weighs_0 15 rfl rfl)
theorem dX2_weighs_18 : decode cX2_weighs 18 = .ok (.iload_n 3, 1) := dk_29 (dk_at dksX2_weighs_0 18 rfl rfl)
theorem dX2_weighs_19 : decode cX2_weighs 19 = .ok (.ireturn, 1) := dk_172 (dk_at dksX2_weighs_0 19 rfl rfl)
abbrev cX2_sets : ByteArray := prog_8_method_10_code
def yX2_sets : MethodName := ⟨RX2, "sets", "(II)I"⟩
def dkwX2_sets_0 : List UInt8 := [42, 180, 0, 27, 27, 46, 62, 42, 180, 0, 27, 27, 28, 79, 29, 172]
abbrev dktX2_sets_0 : List UInt8 := dkwX2_sets_0 ++ []
theorem dksX2_sets_0 : cX2_sets.data.toList.drop 0 = dktX2_sets_0 := by decide +kernel
theorem dX2_sets_0 : decode cX2_sets 0 = .ok (.aload_n 0, 1) := dk_42 (dk_at dksX2_sets_0 0 rfl rfl)
theorem dX2_sets_1 : decode cX2_sets 1 = .ok (.getfield 27, 3) := dk_180 0 27 (dk_at dksX2_sets_0 1 rfl rfl)
theorem dX2_sets_4 : decode cX2_sets 4 = .ok (.iload_n 1, 1) := dk_27 (dk_at dksX2_sets_0 4 rfl rfl)
theorem dX2_sets_5 : decode cX2_sets 5 = .ok (.iaload, 1) := dk_46 (dk_at dksX2_sets_0 5 rfl rfl)
theorem dX2_sets_6 : decode cX2_sets 6 = .ok (.istore_n 3, 1) := dk_62 (dk_at dksX2_sets_0 6 rfl rfl)
theorem dX2_sets_7 : decode cX2_sets 7 = .ok (.aload_n 0, 1) := dk_42 (dk_at dksX2_sets_0 7 rfl rfl)
theorem dX2_sets_8 : decode cX2_sets 8 = .ok (.getfield 27, 3) := dk_180 0 27 (dk_at dksX2_sets_0 8 rfl rfl)
theorem dX2_sets_11 : decode cX2_sets 11 = .ok (.iload_n 1, 1) := dk_27 (dk_at dksX2_sets_0 11 rfl rfl)
theorem dX2_sets_12 : decode cX2_sets 12 = .ok (.iload_n 2, 1) := dk_28 (dk_at dksX2_sets_0 12 rfl rfl)
theorem dX2_sets_13 : decode cX2_sets 13 = .ok (.iastore, 1) := dk_79 (dk_at dksX2_sets_0 13 rfl rfl)
theorem dX2_sets_14 : decode cX2_sets 14 = .ok (.iload_n 3, 1) := dk_29 (dk_at dksX2_sets_0 14 rfl rfl)
theorem dX2_sets_15 : decode cX2_sets 15 = .ok (.ireturn, 1) := dk_172 (dk_at dksX2_sets_0 15 rfl rfl)
abbrev cX2_goesThrough : ByteArray := prog_8_method_22_code
def yX2_goesThrough : MethodName := ⟨RX2, "goesThrough", "()I"⟩
def dkwX2_goesThrough_4 : List UInt8 := [180, 0, 48, 28, 51, 182, 0, 200, 132, 2, 1, 167, 255, 192, 27, 172]
abbrev dktX2_goesThrough_4 : List UInt8 := dkwX2_goesThrough_4 ++ []
def dkwX2_goesThrough_3 : List UInt8 := [28, 51, 160, 0, 7, 4, 167, 0, 4, 3, 184, 0, 177, 96, 60, 42, 42, 180, 0, 44, 28, 51, 29, 42]
abbrev dktX2_goesThrough_3 : List UInt8 := dkwX2_goesThrough_3 ++ dktX2_goesThrough_4
def dkwX2_goesThrough_2 : List UInt8 := [162, 0, 62, 28, 184, 0, 185, 62, 27, 42, 42, 180, 0, 44, 28, 51, 29, 182, 0, 190, 42, 180, 0, 48]
abbrev dktX2_goesThrough_2 : List UInt8 := dkwX2_goesThrough_2 ++ dktX2_goesThrough_3
def dkwX2_goesThrough_1 : List UInt8 := [182, 0, 72, 180, 0, 202, 181, 0, 147, 132, 1, 1, 167, 255, 224, 3, 60, 3, 61, 28, 42, 180, 0, 95]
abbrev dktX2_goesThrough_1 : List UInt8 := dkwX2_goesThrough_1 ++ dktX2_goesThrough_2
def dkwX2_goesThrough_0 : List UInt8 := [3, 60, 27, 42, 180, 0, 14, 185, 0, 64, 1, 0, 162, 0, 25, 42, 27, 182, 0, 72, 42, 27]
abbrev dktX2_goesThrough_0 : List UInt8 := dkwX2_goesThrough_0 ++ dktX2_goesThrough_1
theorem dksX2_goesThrough_0 : cX2_goesThrough.data.toList.drop 0 = dktX2_goesThrough_0 := by decide +kernel
theorem dksX2_goesThrough_1 : cX2_goesThrough.data.toList.drop 22 = dktX2_goesThrough_1 := dk_seg dksX2_goesThrough_0 22 rfl rfl
theorem dksX2_goesThrough_2 : cX2_goesThrough.data.toList.drop 46 = dktX2_goesThrough_2 := dk_seg dksX2_goesThrough_1 24 rfl rfl
theorem dksX2_goesThrough_3 : cX2_goesThrough.data.toList.drop 70 = dktX2_goesThrough_3 := dk_seg dksX2_goesThrough_2 24 rfl rfl
theorem dksX2_goesThrough_4 : cX2_goesThrough.data.toList.drop 94 = dktX2_goesThrough_4 := dk_seg dksX2_goesThrough_3 24 rfl rfl
theorem dX2_goesThrough_0 : decode cX2_goesThrough 0 = .ok (.iconst 0, 1) := dk_3 (dk_at dksX2_goesThrough_0 0 rfl rfl)
theorem dX2_goesThrough_1 : decode cX2_goesThrough 1 = .ok (.istore_n 1, 1) := dk_60 (dk_at dksX2_goesThrough_0 1 rfl rfl)
theorem dX2_goesThrough_2 : decode cX2_goesThrough 2 = .ok (.iload_n 1, 1) := dk_27 (dk_at dksX2_goesThrough_0 2 rfl rfl)
theorem dX2_goesThrough_3 : decode cX2_goesThrough 3 = .ok (.aload_n 0, 1) := dk_42 (dk_at dksX2_goesThrough_0 3 rfl rfl)
theorem dX2_goesThrough_4 : decode cX2_goesThrough 4 = .ok (.getfield 14, 3) := dk_180 0 14 (dk_at dksX2_goesThrough_0 4 rfl rfl)
theorem dX2_goesThrough_7 : decode cX2_goesThrough 7 = .ok (.invokeinterface 64 1, 5) := by decide +kernel
theorem dX2_goesThrough_12 : decode cX2_goesThrough 12 = .ok (.if_icmp .ge 25, 3) := dk_162 0 25 (dk_at dksX2_goesThrough_0 12 rfl rfl)
theorem dX2_goesThrough_15 : decode cX2_goesThrough 15 = .ok (.aload_n 0, 1) := dk_42 (dk_at dksX2_goesThrough_0 15 rfl rfl)
theorem dX2_goesThrough_16 : decode cX2_goesThrough 16 = .ok (.iload_n 1, 1) := dk_27 (dk_at dksX2_goesThrough_0 16 rfl rfl)
theorem dX2_goesThrough_17 : decode cX2_goesThrough 17 = .ok (.invokevirtual 72, 3) := dk_182 0 72 (dk_at dksX2_goesThrough_0 17 rfl rfl)
theorem dX2_goesThrough_20 : decode cX2_goesThrough 20 = .ok (.aload_n 0, 1) := dk_42 (dk_at dksX2_goesThrough_0 20 rfl rfl)
theorem dX2_goesThrough_21 : decode cX2_goesThrough 21 = .ok (.iload_n 1, 1) := dk_27 (dk_at dksX2_goesThrough_0 21 rfl rfl)
theorem dX2_goesThrough_22 : decode cX2_goesThrough 22 = .ok (.invokevirtual 72, 3) := dk_182 0 72 (dk_at dksX2_goesThrough_1 0 rfl rfl)
theorem dX2_goesThrough_25 : decode cX2_goesThrough 25 = .ok (.getfield 202, 3) := dk_180 0 202 (dk_at dksX2_goesThrough_1 3 rfl rfl)
theorem dX2_goesThrough_28 : decode cX2_goesThrough 28 = .ok (.putfield 147, 3) := dk_181 0 147 (dk_at dksX2_goesThrough_1 6 rfl rfl)
theorem dX2_goesThrough_31 : decode cX2_goesThrough 31 = .ok (.iinc 1 1, 3) := dk_132 1 1 (dk_at dksX2_goesThrough_1 9 rfl rfl)
theorem dX2_goesThrough_34 : decode cX2_goesThrough 34 = .ok (.goto (-32), 3) := dk_167 255 224 (dk_at dksX2_goesThrough_1 12 rfl rfl)
theorem dX2_goesThrough_37 : decode cX2_goesThrough 37 = .ok (.iconst 0, 1) := dk_3 (dk_at dksX2_goesThrough_1 15 rfl rfl)
theorem dX2_goesThrough_38 : decode cX2_goesThrough 38 = .ok (.istore_n 1, 1) := dk_60 (dk_at dksX2_goesThrough_1 16 rfl rfl)
theorem dX2_goesThrough_39 : decode cX2_goesThrough 39 = .ok (.iconst 0, 1) := dk_3 (dk_at dksX2_goesThrough_1 17 rfl rfl)
theorem dX2_goesThrough_40 : decode cX2_goesThrough 40 = .ok (.istore_n 2, 1) := dk_61 (dk_at dksX2_goesThrough_1 18 rfl rfl)
theorem dX2_goesThrough_41 : decode cX2_goesThrough 41 = .ok (.iload_n 2, 1) := dk_28 (dk_at dksX2_goesThrough_1 19 rfl rfl)
theorem dX2_goesThrough_42 : decode cX2_goesThrough 42 = .ok (.aload_n 0, 1) := dk_42 (dk_at dksX2_goesThrough_1 20 rfl rfl)
theorem dX2_goesThrough_43 : decode cX2_goesThrough 43 = .ok (.getfield 95, 3) := dk_180 0 95 (dk_at dksX2_goesThrough_1 21 rfl rfl)
theorem dX2_goesThrough_46 : decode cX2_goesThrough 46 = .ok (.if_icmp .ge 62, 3) := dk_162 0 62 (dk_at dksX2_goesThrough_2 0 rfl rfl)
theorem dX2_goesThrough_49 : decode cX2_goesThrough 49 = .ok (.iload_n 2, 1) := dk_28 (dk_at dksX2_goesThrough_2 3 rfl rfl)
theorem dX2_goesThrough_50 : decode cX2_goesThrough 50 = .ok (.invokestatic 185, 3) := dk_184 0 185 (dk_at dksX2_goesThrough_2 4 rfl rfl)
theorem dX2_goesThrough_53 : decode cX2_goesThrough 53 = .ok (.istore_n 3, 1) := dk_62 (dk_at dksX2_goesThrough_2 7 rfl rfl)
theorem dX2_goesThrough_54 : decode cX2_goesThrough 54 = .ok (.iload_n 1, 1) := dk_27 (dk_at dksX2_goesThrough_2 8 rfl rfl)
theorem dX2_goesThrough_55 : decode cX2_goesThrough 55 = .ok (.aload_n 0, 1) := dk_42 (dk_at dksX2_goesThrough_2 9 rfl rfl)
theorem dX2_goesThrough_56 : decode cX2_goesThrough 56 = .ok (.aload_n 0, 1) := dk_42 (dk_at dksX2_goesThrough_2 10 rfl rfl)
theorem dX2_goesThrough_57 : decode cX2_goesThrough 57 = .ok (.getfield 44, 3) := dk_180 0 44 (dk_at dksX2_goesThrough_2 11 rfl rfl)
theorem dX2_goesThrough_60 : decode cX2_goesThrough 60 = .ok (.iload_n 2, 1) := dk_28 (dk_at dksX2_goesThrough_2 14 rfl rfl)
theorem dX2_goesThrough_61 : decode cX2_goesThrough 61 = .ok (.baload, 1) := dk_51 (dk_at dksX2_goesThrough_2 15 rfl rfl)
theorem dX2_goesThrough_62 : decode cX2_goesThrough 62 = .ok (.iload_n 3, 1) := dk_29 (dk_at dksX2_goesThrough_2 16 rfl rfl)
theorem dX2_goesThrough_63 : decode cX2_goesThrough 63 = .ok (.invokevirtual 190, 3) := dk_182 0 190 (dk_at dksX2_goesThrough_2 17 rfl rfl)
theorem dX2_goesThrough_66 : decode cX2_goesThrough 66 = .ok (.aload_n 0, 1) := dk_42 (dk_at dksX2_goesThrough_2 20 rfl rfl)
theorem dX2_goesThrough_67 : decode cX2_goesThrough 67 = .ok (.getfield 48, 3) := dk_180 0 48 (dk_at dksX2_goesThrough_2 21 rfl rfl)
theorem dX2_goesThrough_70 : decode cX2_goesThrough 70 = .ok (.iload_n 2, 1) := dk_28 (dk_at dksX2_goesThrough_3 0 rfl rfl)
theorem dX2_goesThrough_71 : decode cX2_goesThrough 71 = .ok (.baload, 1) := dk_51 (dk_at dksX2_goesThrough_3 1 rfl rfl)
theorem dX2_goesThrough_72 : decode cX2_goesThrough 72 = .ok (.if_icmp .ne 7, 3) := dk_160 0 7 (dk_at dksX2_goesThrough_3 2 rfl rfl)
theorem dX2_goesThrough_75 : decode cX2_goesThrough 75 = .ok (.iconst 1, 1) := dk_4 (dk_at dksX2_goesThrough_3 5 rfl rfl)
theorem dX2_goesThrough_76 : decode cX2_goesThrough 76 = .ok (.goto 4, 3) := dk_167 0 4 (dk_at dksX2_goesThrough_3 6 rfl rfl)
theorem dX2_goesThrough_79 : decode cX2_goesThrough 79 = .ok (.iconst 0, 1) := dk_3 (dk_at dksX2_goesThrough_3 9 rfl rfl)
theorem dX2_goesThrough_80 : decode cX2_goesThrough 80 = .ok (.invokestatic 177, 3) := dk_184 0 177 (dk_at dksX2_goesThrough_3 10 rfl rfl)
theorem dX2_goesThrough_83 : decode cX2_goesThrough 83 = .ok (.iadd, 1) := dk_96 (dk_at dksX2_goesThrough_3 13 rfl rfl)
theorem dX2_goesThrough_84 : decode cX2_goesThrough 84 = .ok (.istore_n 1, 1) := dk_60 (dk_at dksX2_goesThrough_3 14 rfl rfl)
theorem dX2_goesThrough_85 : decode cX2_goesThrough 85 = .ok (.aload_n 0, 1) := dk_42 (dk_at dksX2_goesThrough_3 15 rfl rfl)
theorem dX2_goesThrough_86 : decode cX2_goesThrough 86 = .ok (.aload_n 0, 1) := dk_42 (dk_at dksX2_goesThrough_3 16 rfl rfl)
theorem dX2_goesThrough_87 : decode cX2_goesThrough 87 = .ok (.getfield 44, 3) := dk_180 0 44 (dk_at dksX2_goesThrough_3 17 rfl rfl)
theorem dX2_goesThrough_90 : decode cX2_goesThrough 90 = .ok (.iload_n 2, 1) := dk_28 (dk_at dksX2_goesThrough_3 20 rfl rfl)
theorem dX2_goesThrough_91 : decode cX2_goesThrough 91 = .ok (.baload, 1) := dk_51 (dk_at dksX2_goesThrough_3 21 rfl rfl)
theorem dX2_goesThrough_92 : decode cX2_goesThrough 92 = .ok (.iload_n 3, 1) := dk_29 (dk_at dksX2_goesThrough_3 22 rfl rfl)
theorem dX2_goesThrough_93 : decode cX2_goesThrough 93 = .ok (.aload_n 0, 1) := dk_42 (dk_at dksX2_goesThrough_3 23 rfl rfl)
theorem dX2_goesThrough_94 : decode cX2_goesThrough 94 = .ok (.getfield 48, 3) := dk_180 0 48 (dk_at dksX2_goesThrough_4 0 rfl rfl)
theorem dX2_goesThrough_97 : decode cX2_goesThrough 97 = .ok (.iload_n 2, 1) := dk_28 (dk_at dksX2_goesThrough_4 3 rfl rfl)
theorem dX2_goesThrough_98 : decode cX2_goesThrough 98 = .ok (.baload, 1) := dk_51 (dk_at dksX2_goesThrough_4 4 rfl rfl)
theorem dX2_goesThrough_99 : decode cX2_goesThrough 99 = .ok (.invokevirtual 200, 3) := dk_182 0 200 (dk_at dksX2_goesThrough_4 5 rfl rfl)
theorem dX2_goesThrough_102 : decode cX2_goesThrough 102 = .ok (.iinc 2 1, 3) := dk_132 2 1 (dk_at dksX2_goesThrough_4 8 rfl rfl)
theorem dX2_goesThrough_105 : decode cX2_goesThrough 105 = .ok (.goto (-64), 3) := dk_167 255 192 (dk_at dksX2_goesThrough_4 11 rfl rfl)
theorem dX2_goesThrough_108 : decode cX2_goesThrough 108 = .ok (.iload_n 1, 1) := dk_27 (dk_at dksX2_goesThrough_4 14 rfl rfl)
theorem dX2_goesThrough_109 : decode cX2_goesThrough 109 = .ok (.ireturn, 1) := dk_172 (dk_at dksX2_goesThrough_4 15 rfl rfl)
abbrev cX2_speakers : ByteArray := prog_8_method_11_code
def yX2_speakers : MethodName := ⟨RX2, "speakers", "(II)LRoseProverbs$Rose$Speakers;"⟩
def dkwX2_speakers_0 : List UInt8 := [187, 0, 150, 89, 42, 27, 28, 183, 0, 152, 176]
abbrev dktX2_speakers_0 : List UInt8 := dkwX2_speakers_0 ++ []
theorem dksX2_speakers_0 : cX2_speakers.data.toList.drop 0 = dktX2_speakers_0 := by decide +kernel
theorem dX2_speakers_0 : decode cX2_speakers 0 = .ok (.new 150, 3) := dk_187 0 150 (dk_at dksX2_speakers_0 0 rfl rfl)
theorem dX2_speakers_3 : decode cX2_speakers 3 = .ok (.dup, 1) := dk_89 (dk_at dksX2_speakers_0 3 rfl rfl)
theorem dX2_speakers_4 : decode cX2_speakers 4 = .ok (.aload_n 0, 1) := dk_42 (dk_at dksX2_speakers_0 4 rfl rfl)
theorem dX2_speakers_5 : decode cX2_speakers 5 = .ok (.iload_n 1, 1) := dk_27 (dk_at dksX2_speakers_0 5 rfl rfl)
theorem dX2_speakers_6 : decode cX2_speakers 6 = .ok (.iload_n 2, 1) := dk_28 (dk_at dksX2_speakers_0 6 rfl rfl)
theorem dX2_speakers_7 : decode cX2_speakers 7 = .ok (.invokespecial 152, 3) := dk_183 0 152 (dk_at dksX2_speakers_0 7 rfl rfl)
theorem dX2_speakers_10 : decode cX2_speakers 10 = .ok (.areturn, 1) := dk_176 (dk_at dksX2_speakers_0 10 rfl rfl)
abbrev cX2_voice : ByteArray := prog_8_method_14_code
def yX2_voice : MethodName := ⟨RX2, "voice", "(III)I"⟩
def dkwX2_voice_0 : List UInt8 := [42, 27, 28, 2, 182, 0, 165, 42, 29, 182, 0, 169, 172]
abbrev dktX2_voice_0 : List UInt8 := dkwX2_voice_0 ++ []
theorem dksX2_voice_0 : cX2_voice.data.toList.drop 0 = dktX2_voice_0 := by decide +kernel
theorem dX2_voice_0 : decode cX2_voice 0 = .ok (.aload_n 0, 1) := dk_42 (dk_at dksX2_voice_0 0 rfl rfl)
theorem dX2_voice_1 : decode cX2_voice 1 = .ok (.iload_n 1, 1) := dk_27 (dk_at dksX2_voice_0 1 rfl rfl)
theorem dX2_voice_2 : decode cX2_voice 2 = .ok (.iload_n 2, 1) := dk_28 (dk_at dksX2_voice_0 2 rfl rfl)
theorem dX2_voice_3 : decode cX2_voice 3 = .ok (.iconst (-1), 1) := dk_2 (dk_at dksX2_voice_0 3 rfl rfl)
theorem dX2_voice_4 : decode cX2_voice 4 = .ok (.invokevirtual 165, 3) := dk_182 0 165 (dk_at dksX2_voice_0 4 rfl rfl)
theorem dX2_voice_7 : decode cX2_voice 7 = .ok (.aload_n 0, 1) := dk_42 (dk_at dksX2_voice_0 7 rfl rfl)
theorem dX2_voice_8 : decode cX2_voice 8 = .ok (.iload_n 3, 1) := dk_29 (dk_at dksX2_voice_0 8 rfl rfl)
theorem dX2_voice_9 : decode cX2_voice 9 = .ok (.invokevirtual 169, 3) := dk_182 0 169 (dk_at dksX2_voice_0 9 rfl rfl)
theorem dX2_voice_12 : decode cX2_voice 12 = .ok (.ireturn, 1) := dk_172 (dk_at dksX2_voice_0 12 rfl rfl)
theorem q134 : (Jvm.Cond.initialized "RoseProverbs$Rose") ∈ lw_all := lw_g (lw_at lw_m1 2 rfl) rfl
theorem q211 : (Jvm.Cond.instantiable "RoseProverbs$Rose" (14 : Nat)) ∈ lw_all := lw_g (lw_at lw_m1 79 rfl) rfl
theorem q213 : (Jvm.Cond.instanceMethod ({ cls := "RoseProverbs$Rose", name := "<init>", desc := "()V" } : Jvm.MethodName)) ∈ lw_all := lw_g (lw_at lw_m1 81 rfl) rfl
theorem q214 : (Jvm.Cond.code ({ cls := "RoseProverbs$Rose", name := "<init>", desc := "()V" } : Jvm.MethodName) prog_8_method_1_code (1 : Nat) (Option.none : Option Jvm.ClassFile.FieldType)) ∈ lw_all := lw_g (lw_at lw_m1 82 rfl) rfl
theorem q215 : (Jvm.Cond.methodLink "RoseProverbs$Rose" (3 : Nat) ({ cls := "java/lang/Object", name := "<init>", desc := "()V" } : Jvm.MethodName)) ∈ lw_all := lw_g (lw_at lw_m1 83 rfl) rfl
theorem q216 : (Jvm.Cond.classLink "RoseProverbs$Rose" (9 : Nat) "java/util/ArrayList") ∈ lw_all := lw_g (lw_at lw_m1 84 rfl) rfl
theorem q218 : (Jvm.Cond.methodLink "RoseProverbs$Rose" (11 : Nat) ({ cls := "java/util/ArrayList", name := "<init>", desc := "(I)V" } : Jvm.MethodName)) ∈ lw_all := lw_g (lw_at lw_m1 86 rfl) rfl
theorem q567 : (Jvm.Cond.classLink "RoseProverbs$Rose" (20 : Nat) "java/util/TreeMap") ∈ lw_all := lw_g (lw_at lw_m2 195 rfl) rfl
theorem q569 : (Jvm.Cond.methodLink "RoseProverbs$Rose" (22 : Nat) ({ cls := "java/util/TreeMap", name := "<init>", desc := "()V" } : Jvm.MethodName)) ∈ lw_all := lw_g (lw_at lw_m2 197 rfl) rfl
theorem q603 : (Jvm.Cond.fieldLink "RoseProverbs$Rose" (14 : Nat) "RoseProverbs$Rose" "proverbs" "Ljava/util/List;") ∈ lw_all := lw_g (lw_at lw_m2 231 rfl) rfl
theorem q609 : (Jvm.Cond.fieldLink "RoseProverbs$Rose" (23 : Nat) "RoseProverbs$Rose" "bySaying" "Ljava/util/TreeMap;") ∈ lw_all := lw_g (lw_at lw_m2 237 rfl) rfl
theorem q611 : (Jvm.Cond.fieldLink "RoseProverbs$Rose" (27 : Nat) "RoseProverbs$Rose" "settings" "[I") ∈ lw_all := lw_g (lw_at lw_m2 239 rfl) rfl
theorem q614 : (Jvm.Cond.fieldLink "RoseProverbs$Rose" (31 : Nat) "RoseProverbs$Rose" "accounts" "[I") ∈ lw_all := lw_g (lw_at lw_m3 2 rfl) rfl
theorem q616 : (Jvm.Cond.fieldLink "RoseProverbs$Rose" (34 : Nat) "RoseProverbs$Rose" "scores" "[I") ∈ lw_all := lw_g (lw_at lw_m3 4 rfl) rfl
theorem q618 : (Jvm.Cond.fieldLink "RoseProverbs$Rose" (37 : Nat) "RoseProverbs$Rose" "met" "[S") ∈ lw_all := lw_g (lw_at lw_m3 6 rfl) rfl
theorem q620 : (Jvm.Cond.fieldLink "RoseProverbs$Rose" (41 : Nat) "RoseProverbs$Rose" "beat" "[S") ∈ lw_all := lw_g (lw_at lw_m3 8 rfl) rfl
theorem q622 : (Jvm.Cond.fieldLink "RoseProverbs$Rose" (44 : Nat) "RoseProverbs$Rose" "winds" "[B") ∈ lw_all := lw_g (lw_at lw_m3 10 rfl) rfl
theorem q624 : (Jvm.Cond.fieldLink "RoseProverbs$Rose" (48 : Nat) "RoseProverbs$Rose" "came" "[B") ∈ lw_all := lw_g (lw_at lw_m3 12 rfl) rfl
theorem q626 : (Jvm.Cond.fieldLink "RoseProverbs$Rose" (51 : Nat) "RoseProverbs$Rose" "told" "[B") ∈ lw_all := lw_g (lw_at lw_m3 14 rfl) rfl
theorem q628 : (Jvm.Cond.fieldLink "RoseProverbs$Rose" (54 : Nat) "RoseProverbs$Rose" "sums" "[I") ∈ lw_all := lw_g (lw_at lw_m3 16 rfl) rfl
theorem q629 : (Jvm.Cond.fieldLink "RoseProverbs$Rose" (57 : Nat) "RoseProverbs$Rose" "most" "[I") ∈ lw_all := lw_g (lw_at lw_m3 17 rfl) rfl
theorem q630 : (Jvm.Cond.fieldLink "RoseProverbs$Rose" (60 : Nat) "RoseProverbs$Rose" "many" "[I") ∈ lw_all := lw_g (lw_at lw_m3 18 rfl) rfl
theorem q633 : (Jvm.Cond.fieldLink "RoseProverbs$Rose" (95 : Nat) "RoseProverbs$Rose" "day" "I") ∈ lw_all := lw_g (lw_at lw_m3 21 rfl) rfl
theorem q635 : (Jvm.Cond.laysFinal "RoseProverbs$Rose" "RoseProverbs$Rose" "proverbs" "Ljava/util/List;") ∈ lw_all := lw_g (lw_at lw_m3 23 rfl) rfl
theorem q636 : (Jvm.Cond.soleField "RoseProverbs$Rose" "proverbs") ∈ lw_all := lw_g (lw_at lw_m3 24 rfl) rfl
theorem q637 : (Jvm.Cond.laysFinal "RoseProverbs$Rose" "RoseProverbs$Rose" "bySaying" "Ljava/util/TreeMap;") ∈ lw_all := lw_g (lw_at lw_m3 25 rfl) rfl
theorem q638 : (Jvm.Cond.soleField "RoseProverbs$Rose" "bySaying") ∈ lw_all := lw_g (lw_at lw_m3 26 rfl) rfl
theorem q639 : (Jvm.Cond.laysFinal "RoseProverbs$Rose" "RoseProverbs$Rose" "settings" "[I") ∈ lw_all := lw_g (lw_at lw_m3 27 rfl) rfl
theorem q640 : (Jvm.Cond.soleField "RoseProverbs$Rose" "settings") ∈ lw_all := lw_g (lw_at lw_m3 28 rfl) rfl
theorem q641 : (Jvm.Cond.laysFinal "RoseProverbs$Rose" "RoseProverbs$Rose" "accounts" "[I") ∈ lw_all := lw_g (lw_at lw_m3 29 rfl) rfl
theorem q642 : (Jvm.Cond.soleField "RoseProverbs$Rose" "accounts") ∈ lw_all := lw_g (lw_at lw_m3 30 rfl) rfl
theorem q643 : (Jvm.Cond.laysFinal "RoseProverbs$Rose" "RoseProverbs$Rose" "scores" "[I") ∈ lw_all := lw_g (lw_at lw_m3 31 rfl) rfl
theorem q644 : (Jvm.Cond.soleField "RoseProverbs$Rose" "scores") ∈ lw_all := lw_g (lw_at lw_m3 32 rfl) rfl
theorem q645 : (Jvm.Cond.laysFinal "RoseProverbs$Rose" "RoseProverbs$Rose" "met" "[S") ∈ lw_all := lw_g (lw_at lw_m3 33 rfl) rfl
theorem q646 : (Jvm.Cond.soleField "RoseProverbs$Rose" "met") ∈ lw_all := lw_g (lw_at lw_m3 34 rfl) rfl
theorem q647 : (Jvm.Cond.laysFinal "RoseProverbs$Rose" "RoseProverbs$Rose" "beat" "[S") ∈ lw_all := lw_g (lw_at lw_m3 35 rfl) rfl
theorem q648 : (Jvm.Cond.soleField "RoseProverbs$Rose" "beat") ∈ lw_all := lw_g (lw_at lw_m3 36 rfl) rfl
theorem q649 : (Jvm.Cond.laysFinal "RoseProverbs$Rose" "RoseProverbs$Rose" "winds" "[B") ∈ lw_all := lw_g (lw_at lw_m3 37 rfl) rfl
theorem q650 : (Jvm.Cond.soleField "RoseProverbs$Rose" "winds") ∈ lw_all := lw_g (lw_at lw_m3 38 rfl) rfl
theorem q651 : (Jvm.Cond.laysFinal "RoseProverbs$Rose" "RoseProverbs$Rose" "came" "[B") ∈ lw_all := lw_g (lw_at lw_m3 39 rfl) rfl
theorem q652 : (Jvm.Cond.soleField "RoseProverbs$Rose" "came") ∈ lw_all := lw_g (lw_at lw_m3 40 rfl) rfl
theorem q653 : (Jvm.Cond.laysFinal "RoseProverbs$Rose" "RoseProverbs$Rose" "told" "[B") ∈ lw_all := lw_g (lw_at lw_m3 41 rfl) rfl
theorem q654 : (Jvm.Cond.soleField "RoseProverbs$Rose" "told") ∈ lw_all := lw_g (lw_at lw_m3 42 rfl) rfl
theorem q655 : (Jvm.Cond.laysFinal "RoseProverbs$Rose" "RoseProverbs$Rose" "sums" "[I") ∈ lw_all := lw_g (lw_at lw_m3 43 rfl) rfl
theorem q656 : (Jvm.Cond.soleField "RoseProverbs$Rose" "sums") ∈ lw_all := lw_g (lw_at lw_m3 44 rfl) rfl
theorem q657 : (Jvm.Cond.laysFinal "RoseProverbs$Rose" "RoseProverbs$Rose" "most" "[I") ∈ lw_all := lw_g (lw_at lw_m3 45 rfl) rfl
theorem q658 : (Jvm.Cond.soleField "RoseProverbs$Rose" "most") ∈ lw_all := lw_g (lw_at lw_m3 46 rfl) rfl
theorem q659 : (Jvm.Cond.laysFinal "RoseProverbs$Rose" "RoseProverbs$Rose" "many" "[I") ∈ lw_all := lw_g (lw_at lw_m3 47 rfl) rfl
theorem q660 : (Jvm.Cond.soleField "RoseProverbs$Rose" "many") ∈ lw_all := lw_g (lw_at lw_m3 48 rfl) rfl
theorem q661 : (Jvm.Cond.lays "RoseProverbs$Rose" "RoseProverbs$Rose" "day" "I") ∈ lw_all := lw_g (lw_at lw_m3 49 rfl) rfl
theorem q662 : (Jvm.Cond.soleField "RoseProverbs$Rose" "day") ∈ lw_all := lw_g (lw_at lw_m3 50 rfl) rfl
theorem q663 : (Jvm.Cond.superclass "RoseProverbs$Rose" "java/lang/Object") ∈ lw_all := lw_g (lw_at lw_m3 51 rfl) rfl
theorem q669 : (Jvm.Cond.instanceMethod ({ cls := "RoseProverbs$Rose", name := "comes", desc := "([I)I" } : Jvm.MethodName)) ∈ lw_all := lw_g (lw_at lw_m3 57 rfl) rfl
theorem q670 : (Jvm.Cond.selects "RoseProverbs$Rose" ({ cls := "RoseProverbs$Rose", name := "comes", desc := "([I)I" } : Jvm.MethodName) ({ cls := "RoseProverbs$Rose", name := "comes", desc := "([I)I" } : Jvm.MethodName)) ∈ lw_all := lw_g (lw_at lw_m3 58 rfl) rfl
theorem q671 : (Jvm.Cond.code ({ cls := "RoseProverbs$Rose", name := "comes", desc := "([I)I" } : Jvm.MethodName) prog_8_method_6_code (2 : Nat) (Option.some Jvm.ClassFile.FieldType.int)) ∈ lw_all := lw_g (lw_at lw_m3 59 rfl) rfl
theorem q672 : (Jvm.Cond.classLink "RoseProverbs$Rose" (70 : Nat) "RoseProverbs$Proverb") ∈ lw_all := lw_g (lw_at lw_m3 60 rfl) rfl
theorem q674 : (Jvm.Cond.interfaceEntry "RoseProverbs$Rose" (64 : Nat)) ∈ lw_tbl := lw_at lw_m3 62 rfl
theorem q675 : (Jvm.Cond.methodLink "RoseProverbs$Rose" (64 : Nat) ({ cls := "java/util/List", name := "size", desc := "()I" } : Jvm.MethodName)) ∈ lw_all := lw_g (lw_at lw_m3 63 rfl) rfl
theorem q684 : (Jvm.Cond.methodLink "RoseProverbs$Rose" (133 : Nat) ({ cls := "RoseProverbs$Proverb", name := "<init>", desc := "(I[I)V" } : Jvm.MethodName)) ∈ lw_all := lw_g (lw_at lw_m3 72 rfl) rfl
theorem q690 : (Jvm.Cond.fieldLinkNest "RoseProverbs$Rose" (130 : Nat) "RoseProverbs$Proverb" "number" "I" "RoseProverbs") ∈ lw_tbl := lw_at lw_m3 78 rfl
theorem q701 : (Jvm.Cond.fieldLinkNest "RoseProverbs$Rose" (159 : Nat) "RoseProverbs$Proverb" "weather" "I" "RoseProverbs") ∈ lw_tbl := lw_at lw_m3 89 rfl
theorem q704 : (Jvm.Cond.fieldLinkNest "RoseProverbs$Rose" (202 : Nat) "RoseProverbs$Proverb" "start" "I" "RoseProverbs") ∈ lw_tbl := lw_at lw_m3 92 rfl
theorem q708 : (Jvm.Cond.fieldLinkNest "RoseProverbs$Rose" (147 : Nat) "RoseProverbs$Proverb" "weight" "I" "RoseProverbs") ∈ lw_tbl := lw_at lw_m3 96 rfl
theorem q716 : (Jvm.Cond.fieldLinkNest "RoseProverbs$Rose" (113 : Nat) "RoseProverbs$Proverb" "forgotten" "Z" "RoseProverbs") ∈ lw_tbl := lw_at lw_m3 104 rfl
theorem q741 : (Jvm.Cond.methodLink "RoseProverbs$Rose" (79 : Nat) ({ cls := "RoseProverbs$Rose", name := "adds", desc := "(LRoseProverbs$Proverb;)I" } : Jvm.MethodName)) ∈ lw_all := lw_g (lw_at lw_m3 129 rfl) rfl
theorem q742 : (Jvm.Cond.privateMethod ({ cls := "RoseProverbs$Rose", name := "adds", desc := "(LRoseProverbs$Proverb;)I" } : Jvm.MethodName)) ∈ lw_tbl := lw_at lw_m3 130 rfl
theorem q743 : (Jvm.Cond.instanceMethod ({ cls := "RoseProverbs$Rose", name := "adds", desc := "(LRoseProverbs$Proverb;)I" } : Jvm.MethodName)) ∈ lw_all := lw_g (lw_at lw_m3 131 rfl) rfl
theorem q744 : (Jvm.Cond.code ({ cls := "RoseProverbs$Rose", name := "adds", desc := "(LRoseProverbs$Proverb;)I" } : Jvm.MethodName) prog_8_method_5_code (4 : Nat) (Option.some Jvm.ClassFile.FieldType.int)) ∈ lw_all := lw_g (lw_at lw_m3 132 rfl) rfl
theorem q745 : (Jvm.Cond.interfaceEntry "RoseProverbs$Rose" (109 : Nat)) ∈ lw_tbl := lw_at lw_m3 133 rfl
theorem q746 : (Jvm.Cond.methodLink "RoseProverbs$Rose" (109 : Nat) ({ cls := "java/util/List", name := "add", desc := "(Ljava/lang/Object;)Z" } : Jvm.MethodName)) ∈ lw_all := lw_g (lw_at lw_m3 134 rfl) rfl
theorem q779 : (Jvm.Cond.selects "RoseProverbs$Rose" ({ cls := "java/lang/Object", name := "getClass", desc := "()Ljava/lang/Class;" } : Jvm.MethodName) ({ cls := "java/lang/Object", name := "getClass", desc := "()Ljava/lang/Class;" } : Jvm.MethodName)) ∈ lw_all := lw_g (lw_at lw_m3 167 rfl) rfl
theorem q823 : (Jvm.Cond.methodLink "RoseProverbs$Rose" (117 : Nat) ({ cls := "RoseProverbs$Proverb", name := "saying", desc := "()I" } : Jvm.MethodName)) ∈ lw_all := lw_g (lw_at lw_m3 211 rfl) rfl
theorem q827 : (Jvm.Cond.methodLink "RoseProverbs$Rose" (120 : Nat) ({ cls := "java/lang/Integer", name := "valueOf", desc := "(I)Ljava/lang/Integer;" } : Jvm.MethodName)) ∈ lw_all := lw_g (lw_at lw_m3 215 rfl) rfl
theorem q847 : (Jvm.Cond.methodLink "RoseProverbs$Rose" (126 : Nat) ({ cls := "java/util/TreeMap", name := "put", desc := "(Ljava/lang/Object;Ljava/lang/Object;)Ljava/lang/Object;" } : Jvm.MethodName)) ∈ lw_all := lw_g (lw_at lw_m3 235 rfl) rfl
theorem q1140 : (Jvm.Cond.instanceMethod ({ cls := "RoseProverbs$Rose", name := "twin", desc := "()LRoseProverbs$Rose;" } : Jvm.MethodName)) ∈ lw_all := lw_g (lw_at lw_m5 48 rfl) rfl
theorem q1141 : (Jvm.Cond.selects "RoseProverbs$Rose" ({ cls := "RoseProverbs$Rose", name := "twin", desc := "()LRoseProverbs$Rose;" } : Jvm.MethodName) ({ cls := "RoseProverbs$Rose", name := "twin", desc := "()LRoseProverbs$Rose;" } : Jvm.MethodName)) ∈ lw_all := lw_g (lw_at lw_m5 49 rfl) rfl
theorem q1142 : (Jvm.Cond.code ({ cls := "RoseProverbs$Rose", name := "twin", desc := "()LRoseProverbs$Rose;" } : Jvm.MethodName) prog_8_method_2_code (4 : Nat) (Option.some (Jvm.ClassFile.FieldType.object "RoseProverbs$Rose"))) ∈ lw_all := lw_g (lw_at lw_m5 50 rfl) rfl
theorem q1143 : (Jvm.Cond.classLink "RoseProverbs$Rose" (15 : Nat) "RoseProverbs$Rose") ∈ lw_all := lw_g (lw_at lw_m5 51 rfl) rfl
theorem q1144 : (Jvm.Cond.methodLink "RoseProverbs$Rose" (63 : Nat) ({ cls := "RoseProverbs$Rose", name := "<init>", desc := "()V" } : Jvm.MethodName)) ∈ lw_all := lw_g (lw_at lw_m5 52 rfl) rfl
theorem q1145 : (Jvm.Cond.methodLink "RoseProverbs$Rose" (72 : Nat) ({ cls := "RoseProverbs$Rose", name := "proverb", desc := "(I)LRoseProverbs$Proverb;" } : Jvm.MethodName)) ∈ lw_all := lw_g (lw_at lw_m5 53 rfl) rfl
theorem q1146 : (Jvm.Cond.instanceMethod ({ cls := "RoseProverbs$Rose", name := "proverb", desc := "(I)LRoseProverbs$Proverb;" } : Jvm.MethodName)) ∈ lw_all := lw_g (lw_at lw_m5 54 rfl) rfl
theorem q1147 : (Jvm.Cond.selects "RoseProverbs$Rose" ({ cls := "RoseProverbs$Rose", name := "proverb", desc := "(I)LRoseProverbs$Proverb;" } : Jvm.MethodName) ({ cls := "RoseProverbs$Rose", name := "proverb", desc := "(I)LRoseProverbs$Proverb;" } : Jvm.MethodName)) ∈ lw_all := lw_g (lw_at lw_m5 55 rfl) rfl
theorem q1148 : (Jvm.Cond.code ({ cls := "RoseProverbs$Rose", name := "proverb", desc := "(I)LRoseProverbs$Proverb;" } : Jvm.MethodName) prog_8_method_4_code (2 : Nat) (Option.some (Jvm.ClassFile.FieldType.object "RoseProverbs$Proverb"))) ∈ lw_all := lw_g (lw_at lw_m5 56 rfl) rfl
theorem q1149 : (Jvm.Cond.interfaceEntry "RoseProverbs$Rose" (105 : Nat)) ∈ lw_tbl := lw_at lw_m5 57 rfl
theorem q1150 : (Jvm.Cond.methodLink "RoseProverbs$Rose" (105 : Nat) ({ cls := "java/util/List", name := "get", desc := "(I)Ljava/lang/Object;" } : Jvm.MethodName)) ∈ lw_all := lw_g (lw_at lw_m5 58 rfl) rfl
theorem q1168 : (Jvm.Cond.methodLink "RoseProverbs$Rose" (76 : Nat) ({ cls := "RoseProverbs$Proverb", name := "<init>", desc := "(LRoseProverbs$Proverb;)V" } : Jvm.MethodName)) ∈ lw_all := lw_g (lw_at lw_m5 76 rfl) rfl
theorem q1175 : (Jvm.Cond.methodLink "RoseProverbs$Rose" (83 : Nat) ({ cls := "RoseProverbs$Rose", name := "takes", desc := "(LRoseProverbs$Rose;)LRoseProverbs$Rose;" } : Jvm.MethodName)) ∈ lw_all := lw_g (lw_at lw_m5 83 rfl) rfl
theorem q1176 : (Jvm.Cond.instanceMethod ({ cls := "RoseProverbs$Rose", name := "takes", desc := "(LRoseProverbs$Rose;)LRoseProverbs$Rose;" } : Jvm.MethodName)) ∈ lw_all := lw_g (lw_at lw_m5 84 rfl) rfl
theorem q1177 : (Jvm.Cond.selects "RoseProverbs$Rose" ({ cls := "RoseProverbs$Rose", name := "takes", desc := "(LRoseProverbs$Rose;)LRoseProverbs$Rose;" } : Jvm.MethodName) ({ cls := "RoseProverbs$Rose", name := "takes", desc := "(LRoseProverbs$Rose;)LRoseProverbs$Rose;" } : Jvm.MethodName)) ∈ lw_all := lw_g (lw_at lw_m5 85 rfl) rfl
theorem q1178 : (Jvm.Cond.code ({ cls := "RoseProverbs$Rose", name := "takes", desc := "(LRoseProverbs$Rose;)LRoseProverbs$Rose;" } : Jvm.MethodName) prog_8_method_3_code (3 : Nat) (Option.some (Jvm.ClassFile.FieldType.object "RoseProverbs$Rose"))) ∈ lw_all := lw_g (lw_at lw_m5 86 rfl) rfl
theorem q1179 : (Jvm.Cond.methodLink "RoseProverbs$Rose" (87 : Nat) ({ cls := "RoseProverbs$Proverb", name := "takes", desc := "(LRoseProverbs$Proverb;)V" } : Jvm.MethodName)) ∈ lw_all := lw_g (lw_at lw_m5 87 rfl) rfl
theorem q1180 : (Jvm.Cond.methodLink "RoseProverbs$Rose" (89 : Nat) ({ cls := "java/lang/System", name := "arraycopy", desc := "(Ljava/lang/Object;ILjava/lang/Object;II)V" } : Jvm.MethodName)) ∈ lw_all := lw_g (lw_at lw_m5 88 rfl) rfl
theorem q1181 : (Jvm.Cond.methodLink "RoseProverbs$Rose" (99 : Nat) ({ cls := "java/lang/Math", name := "min", desc := "(II)I" } : Jvm.MethodName)) ∈ lw_all := lw_g (lw_at lw_m5 89 rfl) rfl
theorem q1512 : (Jvm.Cond.instanceMethod ({ cls := "RoseProverbs$Rose", name := "isTold", desc := "([I)Z" } : Jvm.MethodName)) ∈ lw_all := lw_g (lw_at lw_m6 180 rfl) rfl
theorem q1513 : (Jvm.Cond.selects "RoseProverbs$Rose" ({ cls := "RoseProverbs$Rose", name := "isTold", desc := "([I)Z" } : Jvm.MethodName) ({ cls := "RoseProverbs$Rose", name := "isTold", desc := "([I)Z" } : Jvm.MethodName)) ∈ lw_all := lw_g (lw_at lw_m6 181 rfl) rfl
theorem q1514 : (Jvm.Cond.code ({ cls := "RoseProverbs$Rose", name := "isTold", desc := "([I)Z" } : Jvm.MethodName) prog_8_method_7_code (2 : Nat) (Option.some Jvm.ClassFile.FieldType.boolean)) ∈ lw_all := lw_g (lw_at lw_m6 182 rfl) rfl
theorem q1515 : (Jvm.Cond.methodLink "RoseProverbs$Rose" (136 : Nat) ({ cls := "RoseProverbs$Proverb", name := "saying", desc := "([I)I" } : Jvm.MethodName)) ∈ lw_all := lw_g (lw_at lw_m6 183 rfl) rfl
theorem q1518 : (Jvm.Cond.methodLink "RoseProverbs$Rose" (139 : Nat) ({ cls := "java/util/TreeMap", name := "containsKey", desc := "(Ljava/lang/Object;)Z" } : Jvm.MethodName)) ∈ lw_all := lw_g (lw_at lw_m6 186 rfl) rfl
theorem q1884 : (Jvm.Cond.instanceMethod ({ cls := "RoseProverbs$Rose", name := "lives", desc := "(II)I" } : Jvm.MethodName)) ∈ lw_all := lw_g (lw_at lw_m8 72 rfl) rfl
theorem q1885 : (Jvm.Cond.selects "RoseProverbs$Rose" ({ cls := "RoseProverbs$Rose", name := "lives", desc := "(II)I" } : Jvm.MethodName) ({ cls := "RoseProverbs$Rose", name := "lives", desc := "(II)I" } : Jvm.MethodName)) ∈ lw_all := lw_g (lw_at lw_m8 73 rfl) rfl
theorem q1886 : (Jvm.Cond.code ({ cls := "RoseProverbs$Rose", name := "lives", desc := "(II)I" } : Jvm.MethodName) prog_8_method_21_code (5 : Nat) (Option.some Jvm.ClassFile.FieldType.int)) ∈ lw_all := lw_g (lw_at lw_m8 74 rfl) rfl
theorem q1887 : (Jvm.Cond.methodLink "RoseProverbs$Rose" (185 : Nat) ({ cls := "RoseProverbs$Ring", name := "monthOf", desc := "(I)I" } : Jvm.MethodName)) ∈ lw_all := lw_g (lw_at lw_m8 75 rfl) rfl
theorem q1890 : (Jvm.Cond.methodLink "RoseProverbs$Rose" (190 : Nat) ({ cls := "RoseProverbs$Rose", name := "told", desc := "(II)I" } : Jvm.MethodName)) ∈ lw_all := lw_g (lw_at lw_m8 78 rfl) rfl
theorem q1891 : (Jvm.Cond.instanceMethod ({ cls := "RoseProverbs$Rose", name := "told", desc := "(II)I" } : Jvm.MethodName)) ∈ lw_all := lw_g (lw_at lw_m8 79 rfl) rfl
theorem q1892 : (Jvm.Cond.selects "RoseProverbs$Rose" ({ cls := "RoseProverbs$Rose", name := "told", desc := "(II)I" } : Jvm.MethodName) ({ cls := "RoseProverbs$Rose", name := "told", desc := "(II)I" } : Jvm.MethodName)) ∈ lw_all := lw_g (lw_at lw_m8 80 rfl) rfl
theorem q1893 : (Jvm.Cond.code ({ cls := "RoseProverbs$Rose", name := "told", desc := "(II)I" } : Jvm.MethodName) prog_8_method_16_code (3 : Nat) (Option.some Jvm.ClassFile.FieldType.int)) ∈ lw_all := lw_g (lw_at lw_m8 81 rfl) rfl
theorem q1894 : (Jvm.Cond.methodLink "RoseProverbs$Rose" (173 : Nat) ({ cls := "RoseProverbs$Rose", name := "toldWithout", desc := "(III)I" } : Jvm.MethodName)) ∈ lw_all := lw_g (lw_at lw_m8 82 rfl) rfl
theorem q1895 : (Jvm.Cond.instanceMethod ({ cls := "RoseProverbs$Rose", name := "toldWithout", desc := "(III)I" } : Jvm.MethodName)) ∈ lw_all := lw_g (lw_at lw_m8 83 rfl) rfl
theorem q1896 : (Jvm.Cond.selects "RoseProverbs$Rose" ({ cls := "RoseProverbs$Rose", name := "toldWithout", desc := "(III)I" } : Jvm.MethodName) ({ cls := "RoseProverbs$Rose", name := "toldWithout", desc := "(III)I" } : Jvm.MethodName)) ∈ lw_all := lw_g (lw_at lw_m8 84 rfl) rfl
theorem q1897 : (Jvm.Cond.code ({ cls := "RoseProverbs$Rose", name := "toldWithout", desc := "(III)I" } : Jvm.MethodName) prog_8_method_15_code (6 : Nat) (Option.some Jvm.ClassFile.FieldType.int)) ∈ lw_all := lw_g (lw_at lw_m8 85 rfl) rfl
theorem q1898 : (Jvm.Cond.methodLink "RoseProverbs$Rose" (165 : Nat) ({ cls := "RoseProverbs$Rose", name := "gathers", desc := "(III)V" } : Jvm.MethodName)) ∈ lw_all := lw_g (lw_at lw_m8 86 rfl) rfl
theorem q1899 : (Jvm.Cond.privateMethod ({ cls := "RoseProverbs$Rose", name := "gathers", desc := "(III)V" } : Jvm.MethodName)) ∈ lw_tbl := lw_at lw_m8 87 rfl
theorem q1900 : (Jvm.Cond.instanceMethod ({ cls := "RoseProverbs$Rose", name := "gathers", desc := "(III)V" } : Jvm.MethodName)) ∈ lw_all := lw_g (lw_at lw_m8 88 rfl) rfl
theorem q1901 : (Jvm.Cond.code ({ cls := "RoseProverbs$Rose", name := "gathers", desc := "(III)V" } : Jvm.MethodName) prog_8_method_12_code (6 : Nat) (Option.none : Option Jvm.ClassFile.FieldType)) ∈ lw_all := lw_g (lw_at lw_m8 89 rfl) rfl
theorem q1902 : (Jvm.Cond.methodLink "RoseProverbs$Rose" (155 : Nat) ({ cls := "RoseProverbs$Proverb", name := "speaks", desc := "(II)Z" } : Jvm.MethodName)) ∈ lw_all := lw_g (lw_at lw_m8 90 rfl) rfl
theorem q1938 : (Jvm.Cond.methodLink "RoseProverbs$Rose" (162 : Nat) ({ cls := "java/lang/Math", name := "max", desc := "(II)I" } : Jvm.MethodName)) ∈ lw_all := lw_g (lw_at lw_m8 126 rfl) rfl
theorem q1939 : (Jvm.Cond.methodLink "RoseProverbs$Rose" (169 : Nat) ({ cls := "RoseProverbs$Rose", name := "gathered", desc := "(I)I" } : Jvm.MethodName)) ∈ lw_all := lw_g (lw_at lw_m8 127 rfl) rfl
theorem q1940 : (Jvm.Cond.privateMethod ({ cls := "RoseProverbs$Rose", name := "gathered", desc := "(I)I" } : Jvm.MethodName)) ∈ lw_tbl := lw_at lw_m8 128 rfl
theorem q1941 : (Jvm.Cond.instanceMethod ({ cls := "RoseProverbs$Rose", name := "gathered", desc := "(I)I" } : Jvm.MethodName)) ∈ lw_all := lw_g (lw_at lw_m8 129 rfl) rfl
theorem q1942 : (Jvm.Cond.code ({ cls := "RoseProverbs$Rose", name := "gathered", desc := "(I)I" } : Jvm.MethodName) prog_8_method_13_code (2 : Nat) (Option.some Jvm.ClassFile.FieldType.int)) ∈ lw_all := lw_g (lw_at lw_m8 130 rfl) rfl
theorem q1943 : (Jvm.Cond.methodLink "RoseProverbs$Rose" (192 : Nat) ({ cls := "RoseProverbs$Rose", name := "kinds", desc := "()I" } : Jvm.MethodName)) ∈ lw_all := lw_g (lw_at lw_m8 131 rfl) rfl
theorem q1944 : (Jvm.Cond.privateMethod ({ cls := "RoseProverbs$Rose", name := "kinds", desc := "()I" } : Jvm.MethodName)) ∈ lw_tbl := lw_at lw_m8 132 rfl
theorem q1945 : (Jvm.Cond.instanceMethod ({ cls := "RoseProverbs$Rose", name := "kinds", desc := "()I" } : Jvm.MethodName)) ∈ lw_all := lw_g (lw_at lw_m8 133 rfl) rfl
theorem q1946 : (Jvm.Cond.code ({ cls := "RoseProverbs$Rose", name := "kinds", desc := "()I" } : Jvm.MethodName) prog_8_method_17_code (3 : Nat) (Option.some Jvm.ClassFile.FieldType.int)) ∈ lw_all := lw_g (lw_at lw_m8 134 rfl) rfl
theorem q1947 : (Jvm.Cond.methodLinkNest "RoseProverbs$Rose" (177 : Nat) ({ cls := "RoseProverbs", name := "bit", desc := "(Z)I" } : Jvm.MethodName) "RoseProverbs") ∈ lw_tbl := lw_at lw_m8 135 rfl
theorem q1950 : (Jvm.Cond.methodLink "RoseProverbs$Rose" (195 : Nat) ({ cls := "RoseProverbs$Rose", name := "scores", desc := "(I)V" } : Jvm.MethodName)) ∈ lw_all := lw_g (lw_at lw_m8 138 rfl) rfl
theorem q1951 : (Jvm.Cond.privateMethod ({ cls := "RoseProverbs$Rose", name := "scores", desc := "(I)V" } : Jvm.MethodName)) ∈ lw_tbl := lw_at lw_m8 139 rfl
theorem q1952 : (Jvm.Cond.instanceMethod ({ cls := "RoseProverbs$Rose", name := "scores", desc := "(I)V" } : Jvm.MethodName)) ∈ lw_all := lw_g (lw_at lw_m8 140 rfl) rfl
theorem q1953 : (Jvm.Cond.code ({ cls := "RoseProverbs$Rose", name := "scores", desc := "(I)V" } : Jvm.MethodName) prog_8_method_18_code (2 : Nat) (Option.none : Option Jvm.ClassFile.FieldType)) ∈ lw_all := lw_g (lw_at lw_m8 141 rfl) rfl
theorem q1954 : (Jvm.Cond.methodLink "RoseProverbs$Rose" (197 : Nat) ({ cls := "RoseProverbs$Rose", name := "meets", desc := "(III)V" } : Jvm.MethodName)) ∈ lw_all := lw_g (lw_at lw_m8 142 rfl) rfl
theorem q1955 : (Jvm.Cond.privateMethod ({ cls := "RoseProverbs$Rose", name := "meets", desc := "(III)V" } : Jvm.MethodName)) ∈ lw_tbl := lw_at lw_m8 143 rfl
theorem q1956 : (Jvm.Cond.instanceMethod ({ cls := "RoseProverbs$Rose", name := "meets", desc := "(III)V" } : Jvm.MethodName)) ∈ lw_all := lw_g (lw_at lw_m8 144 rfl) rfl
theorem q1957 : (Jvm.Cond.code ({ cls := "RoseProverbs$Rose", name := "meets", desc := "(III)V" } : Jvm.MethodName) prog_8_method_19_code (7 : Nat) (Option.none : Option Jvm.ClassFile.FieldType)) ∈ lw_all := lw_g (lw_at lw_m8 145 rfl) rfl
theorem q1958 : (Jvm.Cond.methodLink "RoseProverbs$Rose" (200 : Nat) ({ cls := "RoseProverbs$Rose", name := "learns", desc := "(III)V" } : Jvm.MethodName)) ∈ lw_all := lw_g (lw_at lw_m8 146 rfl) rfl
theorem q1959 : (Jvm.Cond.privateMethod ({ cls := "RoseProverbs$Rose", name := "learns", desc := "(III)V" } : Jvm.MethodName)) ∈ lw_tbl := lw_at lw_m8 147 rfl
theorem q1960 : (Jvm.Cond.instanceMethod ({ cls := "RoseProverbs$Rose", name := "learns", desc := "(III)V" } : Jvm.MethodName)) ∈ lw_all := lw_g (lw_at lw_m8 148 rfl) rfl
theorem q1961 : (Jvm.Cond.code ({ cls := "RoseProverbs$Rose", name := "learns", desc := "(III)V" } : Jvm.MethodName) prog_8_method_20_code (6 : Nat) (Option.none : Option Jvm.ClassFile.FieldType)) ∈ lw_all := lw_g (lw_at lw_m8 149 rfl) rfl
theorem q1962 : (Jvm.Cond.methodLink "RoseProverbs$Rose" (181 : Nat) ({ cls := "RoseProverbs$Proverb", name := "learns", desc := "(ZII)V" } : Jvm.MethodName)) ∈ lw_all := lw_g (lw_at lw_m8 150 rfl) rfl
theorem q1985 : (Jvm.Cond.instanceMethod ({ cls := "RoseProverbs$Rose", name := "forgets", desc := "(I)I" } : Jvm.MethodName)) ∈ lw_all := lw_g (lw_at lw_m8 173 rfl) rfl
theorem q1986 : (Jvm.Cond.selects "RoseProverbs$Rose" ({ cls := "RoseProverbs$Rose", name := "forgets", desc := "(I)I" } : Jvm.MethodName) ({ cls := "RoseProverbs$Rose", name := "forgets", desc := "(I)I" } : Jvm.MethodName)) ∈ lw_all := lw_g (lw_at lw_m8 174 rfl) rfl
theorem q1987 : (Jvm.Cond.code ({ cls := "RoseProverbs$Rose", name := "forgets", desc := "(I)I" } : Jvm.MethodName) prog_8_method_8_code (3 : Nat) (Option.some Jvm.ClassFile.FieldType.int)) ∈ lw_all := lw_g (lw_at lw_m8 175 rfl) rfl
theorem q1988 : (Jvm.Cond.methodLink "RoseProverbs$Rose" (142 : Nat) ({ cls := "java/util/TreeMap", name := "remove", desc := "(Ljava/lang/Object;)Ljava/lang/Object;" } : Jvm.MethodName)) ∈ lw_all := lw_g (lw_at lw_m8 176 rfl) rfl
theorem q2003 : (Jvm.Cond.methodLink "RoseProverbs$Rose" (146 : Nat) ({ cls := "java/util/TreeMap", name := "size", desc := "()I" } : Jvm.MethodName)) ∈ lw_all := lw_g (lw_at lw_m8 191 rfl) rfl
theorem q2013 : (Jvm.Cond.instanceMethod ({ cls := "RoseProverbs$Rose", name := "weighs", desc := "(II)I" } : Jvm.MethodName)) ∈ lw_all := lw_g (lw_at lw_m8 201 rfl) rfl
theorem q2014 : (Jvm.Cond.selects "RoseProverbs$Rose" ({ cls := "RoseProverbs$Rose", name := "weighs", desc := "(II)I" } : Jvm.MethodName) ({ cls := "RoseProverbs$Rose", name := "weighs", desc := "(II)I" } : Jvm.MethodName)) ∈ lw_all := lw_g (lw_at lw_m8 202 rfl) rfl
theorem q2015 : (Jvm.Cond.code ({ cls := "RoseProverbs$Rose", name := "weighs", desc := "(II)I" } : Jvm.MethodName) prog_8_method_9_code (4 : Nat) (Option.some Jvm.ClassFile.FieldType.int)) ∈ lw_all := lw_g (lw_at lw_m8 203 rfl) rfl
theorem q2020 : (Jvm.Cond.instanceMethod ({ cls := "RoseProverbs$Rose", name := "sets", desc := "(II)I" } : Jvm.MethodName)) ∈ lw_all := lw_g (lw_at lw_m8 208 rfl) rfl
theorem q2021 : (Jvm.Cond.selects "RoseProverbs$Rose" ({ cls := "RoseProverbs$Rose", name := "sets", desc := "(II)I" } : Jvm.MethodName) ({ cls := "RoseProverbs$Rose", name := "sets", desc := "(II)I" } : Jvm.MethodName)) ∈ lw_all := lw_g (lw_at lw_m8 209 rfl) rfl
theorem q2022 : (Jvm.Cond.code ({ cls := "RoseProverbs$Rose", name := "sets", desc := "(II)I" } : Jvm.MethodName) prog_8_method_10_code (4 : Nat) (Option.some Jvm.ClassFile.FieldType.int)) ∈ lw_all := lw_g (lw_at lw_m8 210 rfl) rfl
theorem q2424 : (Jvm.Cond.instanceMethod ({ cls := "RoseProverbs$Rose", name := "goesThrough", desc := "()I" } : Jvm.MethodName)) ∈ lw_all := lw_g (lw_at lw_m10 132 rfl) rfl
theorem q2425 : (Jvm.Cond.selects "RoseProverbs$Rose" ({ cls := "RoseProverbs$Rose", name := "goesThrough", desc := "()I" } : Jvm.MethodName) ({ cls := "RoseProverbs$Rose", name := "goesThrough", desc := "()I" } : Jvm.MethodName)) ∈ lw_all := lw_g (lw_at lw_m10 133 rfl) rfl
theorem q2426 : (Jvm.Cond.code ({ cls := "RoseProverbs$Rose", name := "goesThrough", desc := "()I" } : Jvm.MethodName) prog_8_method_22_code (4 : Nat) (Option.some Jvm.ClassFile.FieldType.int)) ∈ lw_all := lw_g (lw_at lw_m10 134 rfl) rfl
theorem q2624 : (Jvm.Cond.instanceMethod ({ cls := "RoseProverbs$Rose", name := "speakers", desc := "(II)LRoseProverbs$Rose$Speakers;" } : Jvm.MethodName)) ∈ lw_all := lw_g (lw_at lw_m11 92 rfl) rfl
theorem q2625 : (Jvm.Cond.selects "RoseProverbs$Rose" ({ cls := "RoseProverbs$Rose", name := "speakers", desc := "(II)LRoseProverbs$Rose$Speakers;" } : Jvm.MethodName) ({ cls := "RoseProverbs$Rose", name := "speakers", desc := "(II)LRoseProverbs$Rose$Speakers;" } : Jvm.MethodName)) ∈ lw_all := lw_g (lw_at lw_m11 93 rfl) rfl
theorem q2626 : (Jvm.Cond.code ({ cls := "RoseProverbs$Rose", name := "speakers", desc := "(II)LRoseProverbs$Rose$Speakers;" } : Jvm.MethodName) prog_8_method_11_code (3 : Nat) (Option.some (Jvm.ClassFile.FieldType.object "RoseProverbs$Rose$Speakers"))) ∈ lw_all := lw_g (lw_at lw_m11 94 rfl) rfl
theorem q2627 : (Jvm.Cond.classLink "RoseProverbs$Rose" (150 : Nat) "RoseProverbs$Rose$Speakers") ∈ lw_all := lw_g (lw_at lw_m11 95 rfl) rfl
theorem q2629 : (Jvm.Cond.methodLink "RoseProverbs$Rose" (152 : Nat) ({ cls := "RoseProverbs$Rose$Speakers", name := "<init>", desc := "(LRoseProverbs$Rose;II)V" } : Jvm.MethodName)) ∈ lw_all := lw_g (lw_at lw_m11 97 rfl) rfl
theorem q2681 : (Jvm.Cond.instanceMethod ({ cls := "RoseProverbs$Rose", name := "voice", desc := "(III)I" } : Jvm.MethodName)) ∈ lw_all := lw_g (lw_at lw_m11 149 rfl) rfl
theorem q2682 : (Jvm.Cond.selects "RoseProverbs$Rose" ({ cls := "RoseProverbs$Rose", name := "voice", desc := "(III)I" } : Jvm.MethodName) ({ cls := "RoseProverbs$Rose", name := "voice", desc := "(III)I" } : Jvm.MethodName)) ∈ lw_all := lw_g (lw_at lw_m11 150 rfl) rfl
theorem q2683 : (Jvm.Cond.code ({ cls := "RoseProverbs$Rose", name := "voice", desc := "(III)I" } : Jvm.MethodName) prog_8_method_14_code (4 : Nat) (Option.some Jvm.ClassFile.FieldType.int)) ∈ lw_all := lw_g (lw_at lw_m11 151 rfl) rfl
theorem q3591 : (Jvm.Cond.castable "RoseProverbs$Rose" "java/lang/Object") ∈ lw_tbl := lw_at lw_m15 99 rfl
theorem in_X2 : ∀ w ∈ wsX20, w ∈ lw_all := lw_in wsX20 [635, 637, 639, 641, 643, 645, 647, 649, 651, 653, 655, 657, 659, 661] (by decide +kernel) (by decide +kernel)
/-! RoseProverbs$Proverb -/
set_option maxRecDepth 100000
def RX3 : String := "RoseProverbs$Proverb"
def TX3 : u_T := fun k => match k with
  | 0 => ("RoseProverbs$Proverb", "number", "I", true)
  | 1 => ("RoseProverbs$Proverb", "from", "I", true)
  | 2 => ("RoseProverbs$Proverb", "to", "I", true)
  | 3 => ("RoseProverbs$Proverb", "first", "I", true)
  | 4 => ("RoseProverbs$Proverb", "last", "I", true)
  | 5 => ("RoseProverbs$Proverb", "weather", "I", true)
  | 6 => ("RoseProverbs$Proverb", "start", "I", true)
  | 7 => ("RoseProverbs$Proverb", "weight", "I", false)
  | 8 => ("RoseProverbs$Proverb", "right", "I", false)
  | 9 => ("RoseProverbs$Proverb", "wrong", "I", false)
  | _ => ("RoseProverbs$Proverb", "forgotten", "Z", false)
def tyX3 : Nat → FieldType := fun k => match k with
  | 0 => .int
  | 1 => .int
  | 2 => .int
  | 3 => .int
  | 4 => .int
  | 5 => .int
  | 6 => .int
  | 7 => .int
  | 8 => .int
  | 9 => .int
  | _ => .boolean
abbrev wsX30 : List Cond := u_ws RX3 TX3 11
theorem nmX3 : ∀ a, a < 11 → ∀ b, b < 11 → a ≠ b → (TX3 a).2.1 ≠ (TX3 b).2.1 := by decide +kernel
theorem tyX3_ok : ∀ k, k < 11 → parseFieldDescriptor (TX3 k).2.2.1 = some (tyX3 k) := by decide +kernel
abbrev cX3_init : ByteArray := prog_6_method_1_code
def yX3_init : MethodName := ⟨RX3, "<init>", "(I[I)V"⟩
def dkwX3_init_2 : List UInt8 := [181, 0, 30, 42, 42, 180, 0, 30, 181, 0, 33, 177]
abbrev dktX3_init_2 : List UInt8 := dkwX3_init_2 ++ []
def dkwX3_init_1 : List UInt8 := [44, 5, 46, 181, 0, 21, 42, 44, 6, 46, 181, 0, 24, 42, 44, 7, 46, 181, 0, 27, 42, 44, 8, 46]
abbrev dktX3_init_1 : List UInt8 := dkwX3_init_1 ++ dktX3_init_2
def dkwX3_init_0 : List UInt8 := [42, 183, 0, 3, 42, 27, 181, 0, 9, 42, 44, 3, 46, 181, 0, 15, 42, 44, 4, 46, 181, 0, 18, 42]
abbrev dktX3_init_0 : List UInt8 := dkwX3_init_0 ++ dktX3_init_1
theorem dksX3_init_0 : cX3_init.data.toList.drop 0 = dktX3_init_0 := by decide +kernel
theorem dksX3_init_1 : cX3_init.data.toList.drop 24 = dktX3_init_1 := dk_seg dksX3_init_0 24 rfl rfl
theorem dksX3_init_2 : cX3_init.data.toList.drop 48 = dktX3_init_2 := dk_seg dksX3_init_1 24 rfl rfl
theorem dX3_init_0 : decode cX3_init 0 = .ok (.aload_n 0, 1) := dk_42 (dk_at dksX3_init_0 0 rfl rfl)
theorem dX3_init_1 : decode cX3_init 1 = .ok (.invokespecial 3, 3) := dk_183 0 3 (dk_at dksX3_init_0 1 rfl rfl)
theorem dX3_init_4 : decode cX3_init 4 = .ok (.aload_n 0, 1) := dk_42 (dk_at dksX3_init_0 4 rfl rfl)
theorem dX3_init_5 : decode cX3_init 5 = .ok (.iload_n 1, 1) := dk_27 (dk_at dksX3_init_0 5 rfl rfl)
theorem dX3_init_6 : decode cX3_init 6 = .ok (.putfield 9, 3) := dk_181 0 9 (dk_at dksX3_init_0 6 rfl rfl)
theorem dX3_init_9 : decode cX3_init 9 = .ok (.aload_n 0, 1) := dk_42 (dk_at dksX3_init_0 9 rfl rfl)
theorem dX3_init_10 : decode cX3_init 10 = .ok (.aload_n 2, 1) := dk_44 (dk_at dksX3_init_0 10 rfl rfl)
theorem dX3_init_11 : decode cX3_init 11 = .ok (.iconst 0, 1) := dk_3 (dk_at dksX3_init_0 11 rfl rfl)
theorem dX3_init_12 : decode cX3_init 12 = .ok (.iaload, 1) := dk_46 (dk_at dksX3_init_0 12 rfl rfl)
theorem dX3_init_13 : decode cX3_init 13 = .ok (.putfield 15, 3) := dk_181 0 15 (dk_at dksX3_init_0 13 rfl rfl)
theorem dX3_init_16 : decode cX3_init 16 = .ok (.aload_n 0, 1) := dk_42 (dk_at dksX3_init_0 16 rfl rfl)
theorem dX3_init_17 : decode cX3_init 17 = .ok (.aload_n 2, 1) := dk_44 (dk_at dksX3_init_0 17 rfl rfl)
theorem dX3_init_18 : decode cX3_init 18 = .ok (.iconst 1, 1) := dk_4 (dk_at dksX3_init_0 18 rfl rfl)
theorem dX3_init_19 : decode cX3_init 19 = .ok (.iaload, 1) := dk_46 (dk_at dksX3_init_0 19 rfl rfl)
theorem dX3_init_20 : decode cX3_init 20 = .ok (.putfield 18, 3) := dk_181 0 18 (dk_at dksX3_init_0 20 rfl rfl)
theorem dX3_init_23 : decode cX3_init 23 = .ok (.aload_n 0, 1) := dk_42 (dk_at dksX3_init_0 23 rfl rfl)
theorem dX3_init_24 : decode cX3_init 24 = .ok (.aload_n 2, 1) := dk_44 (dk_at dksX3_init_1 0 rfl rfl)
theorem dX3_init_25 : decode cX3_init 25 = .ok (.iconst 2, 1) := dk_5 (dk_at dksX3_init_1 1 rfl rfl)
theorem dX3_init_26 : decode cX3_init 26 = .ok (.iaload, 1) := dk_46 (dk_at dksX3_init_1 2 rfl rfl)
theorem dX3_init_27 : decode cX3_init 27 = .ok (.putfield 21, 3) := dk_181 0 21 (dk_at dksX3_init_1 3 rfl rfl)
theorem dX3_init_30 : decode cX3_init 30 = .ok (.aload_n 0, 1) := dk_42 (dk_at dksX3_init_1 6 rfl rfl)
theorem dX3_init_31 : decode cX3_init 31 = .ok (.aload_n 2, 1) := dk_44 (dk_at dksX3_init_1 7 rfl rfl)
theorem dX3_init_32 : decode cX3_init 32 = .ok (.iconst 3, 1) := dk_6 (dk_at dksX3_init_1 8 rfl rfl)
theorem dX3_init_33 : decode cX3_init 33 = .ok (.iaload, 1) := dk_46 (dk_at dksX3_init_1 9 rfl rfl)
theorem dX3_init_34 : decode cX3_init 34 = .ok (.putfield 24, 3) := dk_181 0 24 (dk_at dksX3_init_1 10 rfl rfl)
theorem dX3_init_37 : decode cX3_init 37 = .ok (.aload_n 0, 1) := dk_42 (dk_at dksX3_init_1 13 rfl rfl)
theorem dX3_init_38 : decode cX3_init 38 = .ok (.aload_n 2, 1) := dk_44 (dk_at dksX3_init_1 14 rfl rfl)
theorem dX3_init_39 : decode cX3_init 39 = .ok (.iconst 4, 1) := dk_7 (dk_at dksX3_init_1 15 rfl rfl)
theorem dX3_init_40 : decode cX3_init 40 = .ok (.iaload, 1) := dk_46 (dk_at dksX3_init_1 16 rfl rfl)
theorem dX3_init_41 : decode cX3_init 41 = .ok (.putfield 27, 3) := dk_181 0 27 (dk_at dksX3_init_1 17 rfl rfl)
theorem dX3_init_44 : decode cX3_init 44 = .ok (.aload_n 0, 1) := dk_42 (dk_at dksX3_init_1 20 rfl rfl)
theorem dX3_init_45 : decode cX3_init 45 = .ok (.aload_n 2, 1) := dk_44 (dk_at dksX3_init_1 21 rfl rfl)
theorem dX3_init_46 : decode cX3_init 46 = .ok (.iconst 5, 1) := dk_8 (dk_at dksX3_init_1 22 rfl rfl)
theorem dX3_init_47 : decode cX3_init 47 = .ok (.iaload, 1) := dk_46 (dk_at dksX3_init_1 23 rfl rfl)
theorem dX3_init_48 : decode cX3_init 48 = .ok (.putfield 30, 3) := dk_181 0 30 (dk_at dksX3_init_2 0 rfl rfl)
theorem dX3_init_51 : decode cX3_init 51 = .ok (.aload_n 0, 1) := dk_42 (dk_at dksX3_init_2 3 rfl rfl)
theorem dX3_init_52 : decode cX3_init 52 = .ok (.aload_n 0, 1) := dk_42 (dk_at dksX3_init_2 4 rfl rfl)
theorem dX3_init_53 : decode cX3_init 53 = .ok (.getfield 30, 3) := dk_180 0 30 (dk_at dksX3_init_2 5 rfl rfl)
theorem dX3_init_56 : decode cX3_init 56 = .ok (.putfield 33, 3) := dk_181 0 33 (dk_at dksX3_init_2 8 rfl rfl)
theorem dX3_init_59 : decode cX3_init 59 = .ok (.return_, 1) := dk_177 (dk_at dksX3_init_2 11 rfl rfl)
abbrev cX3_saying : ByteArray := prog_6_method_5_code
def yX3_saying : MethodName := ⟨RX3, "saying", "()I"⟩
def dkwX3_saying_1 : List UInt8 := [180, 0, 24, 96, 8, 104, 42, 180, 0, 27, 96, 172]
abbrev dktX3_saying_1 : List UInt8 := dkwX3_saying_1 ++ []
def dkwX3_saying_0 : List UInt8 := [42, 180, 0, 15, 16, 16, 104, 42, 180, 0, 18, 96, 16, 12, 104, 42, 180, 0, 21, 96, 16, 12, 104, 42]
abbrev dktX3_saying_0 : List UInt8 := dkwX3_saying_0 ++ dktX3_saying_1
theorem dksX3_saying_0 : cX3_saying.data.toList.drop 0 = dktX3_saying_0 := by decide +kernel
theorem dksX3_saying_1 : cX3_saying.data.toList.drop 24 = dktX3_saying_1 := dk_seg dksX3_saying_0 24 rfl rfl
theorem dX3_saying_0 : decode cX3_saying 0 = .ok (.aload_n 0, 1) := dk_42 (dk_at dksX3_saying_0 0 rfl rfl)
theorem dX3_saying_1 : decode cX3_saying 1 = .ok (.getfield 15, 3) := dk_180 0 15 (dk_at dksX3_saying_0 1 rfl rfl)
theorem dX3_saying_4 : decode cX3_saying 4 = .ok (.bipush 16, 2) := dk_16 16 (dk_at dksX3_saying_0 4 rfl rfl)
theorem dX3_saying_6 : decode cX3_saying 6 = .ok (.imul, 1) := dk_104 (dk_at dksX3_saying_0 6 rfl rfl)
theorem dX3_saying_7 : decode cX3_saying 7 = .ok (.aload_n 0, 1) := dk_42 (dk_at dksX3_saying_0 7 rfl rfl)
theorem dX3_saying_8 : decode cX3_saying 8 = .ok (.getfield 18, 3) := dk_180 0 18 (dk_at dksX3_saying_0 8 rfl rfl)
theorem dX3_saying_11 : decode cX3_saying 11 = .ok (.iadd, 1) := dk_96 (dk_at dksX3_saying_0 11 rfl rfl)
theorem dX3_saying_12 : decode cX3_saying 12 = .ok (.bipush 12, 2) := dk_16 12 (dk_at dksX3_saying_0 12 rfl rfl)
theorem dX3_saying_14 : decode cX3_saying 14 = .ok (.imul, 1) := dk_104 (dk_at dksX3_saying_0 14 rfl rfl)
theorem dX3_saying_15 : decode cX3_saying 15 = .ok (.aload_n 0, 1) := dk_42 (dk_at dksX3_saying_0 15 rfl rfl)
theorem dX3_saying_16 : decode cX3_saying 16 = .ok (.getfield 21, 3) := dk_180 0 21 (dk_at dksX3_saying_0 16 rfl rfl)
theorem dX3_saying_19 : decode cX3_saying 19 = .ok (.iadd, 1) := dk_96 (dk_at dksX3_saying_0 19 rfl rfl)
theorem dX3_saying_20 : decode cX3_saying 20 = .ok (.bipush 12, 2) := dk_16 12 (dk_at dksX3_saying_0 20 rfl rfl)
theorem dX3_saying_22 : decode cX3_saying 22 = .ok (.imul, 1) := dk_104 (dk_at dksX3_saying_0 22 rfl rfl)
theorem dX3_saying_23 : decode cX3_saying 23 = .ok (.aload_n 0, 1) := dk_42 (dk_at dksX3_saying_0 23 rfl rfl)
theorem dX3_saying_24 : decode cX3_saying 24 = .ok (.getfield 24, 3) := dk_180 0 24 (dk_at dksX3_saying_1 0 rfl rfl)
theorem dX3_saying_27 : decode cX3_saying 27 = .ok (.iadd, 1) := dk_96 (dk_at dksX3_saying_1 3 rfl rfl)
theorem dX3_saying_28 : decode cX3_saying 28 = .ok (.iconst 5, 1) := dk_8 (dk_at dksX3_saying_1 4 rfl rfl)
theorem dX3_saying_29 : decode cX3_saying 29 = .ok (.imul, 1) := dk_104 (dk_at dksX3_saying_1 5 rfl rfl)
theorem dX3_saying_30 : decode cX3_saying 30 = .ok (.aload_n 0, 1) := dk_42 (dk_at dksX3_saying_1 6 rfl rfl)
theorem dX3_saying_31 : decode cX3_saying 31 = .ok (.getfield 27, 3) := dk_180 0 27 (dk_at dksX3_saying_1 7 rfl rfl)
theorem dX3_saying_34 : decode cX3_saying 34 = .ok (.iadd, 1) := dk_96 (dk_at dksX3_saying_1 10 rfl rfl)
theorem dX3_saying_35 : decode cX3_saying 35 = .ok (.ireturn, 1) := dk_172 (dk_at dksX3_saying_1 11 rfl rfl)
abbrev cX3_init_2 : ByteArray := prog_6_method_2_code
def yX3_init_2 : MethodName := ⟨RX3, "<init>", "(LRoseProverbs$Proverb;)V"⟩
def dkwX3_init_2_2 : List UInt8 := [180, 0, 27, 181, 0, 27, 42, 43, 180, 0, 30, 181, 0, 30, 42, 43, 182, 0, 36, 177]
abbrev dktX3_init_2_2 : List UInt8 := dkwX3_init_2_2 ++ []
def dkwX3_init_2_1 : List UInt8 := [180, 0, 18, 181, 0, 18, 42, 43, 180, 0, 21, 181, 0, 21, 42, 43, 180, 0, 24, 181, 0, 24, 42, 43]
abbrev dktX3_init_2_1 : List UInt8 := dkwX3_init_2_1 ++ dktX3_init_2_2
def dkwX3_init_2_0 : List UInt8 := [42, 183, 0, 3, 42, 43, 180, 0, 9, 181, 0, 9, 42, 43, 180, 0, 15, 181, 0, 15, 42, 43]
abbrev dktX3_init_2_0 : List UInt8 := dkwX3_init_2_0 ++ dktX3_init_2_1
theorem dksX3_init_2_0 : cX3_init_2.data.toList.drop 0 = dktX3_init_2_0 := by decide +kernel
theorem dksX3_init_2_1 : cX3_init_2.data.toList.drop 22 = dktX3_init_2_1 := dk_seg dksX3_init_2_0 22 rfl rfl
theorem dksX3_init_2_2 : cX3_init_2.data.toList.drop 46 = dktX3_init_2_2 := dk_seg dksX3_init_2_1 24 rfl rfl
theorem dX3_init_2_0 : decode cX3_init_2 0 = .ok (.aload_n 0, 1) := dk_42 (dk_at dksX3_init_2_0 0 rfl rfl)
theorem dX3_init_2_1 : decode cX3_init_2 1 = .ok (.invokespecial 3, 3) := dk_183 0 3 (dk_at dksX3_init_2_0 1 rfl rfl)
theorem dX3_init_2_4 : decode cX3_init_2 4 = .ok (.aload_n 0, 1) := dk_42 (dk_at dksX3_init_2_0 4 rfl rfl)
theorem dX3_init_2_5 : decode cX3_init_2 5 = .ok (.aload_n 1, 1) := dk_43 (dk_at dksX3_init_2_0 5 rfl rfl)
theorem dX3_init_2_6 : decode cX3_init_2 6 = .ok (.getfield 9, 3) := dk_180 0 9 (dk_at dksX3_init_2_0 6 rfl rfl)
theorem dX3_init_2_9 : decode cX3_init_2 9 = .ok (.putfield 9, 3) := dk_181 0 9 (dk_at dksX3_init_2_0 9 rfl rfl)
theorem dX3_init_2_12 : decode cX3_init_2 12 = .ok (.aload_n 0, 1) := dk_42 (dk_at dksX3_init_2_0 12 rfl rfl)
theorem dX3_init_2_13 : decode cX3_init_2 13 = .ok (.aload_n 1, 1) := dk_43 (dk_at dksX3_init_2_0 13 rfl rfl)
theorem dX3_init_2_14 : decode cX3_init_2 14 = .ok (.getfield 15, 3) := dk_180 0 15 (dk_at dksX3_init_2_0 14 rfl rfl)
theorem dX3_init_2_17 : decode cX3_init_2 17 = .ok (.putfield 15, 3) := dk_181 0 15 (dk_at dksX3_init_2_0 17 rfl rfl)
theorem dX3_init_2_20 : decode cX3_init_2 20 = .ok (.aload_n 0, 1) := dk_42 (dk_at dksX3_init_2_0 20 rfl rfl)
theorem dX3_init_2_21 : decode cX3_init_2 21 = .ok (.aload_n 1, 1) := dk_43 (dk_at dksX3_init_2_0 21 rfl rfl)
theorem dX3_init_2_22 : decode cX3_init_2 22 = .ok (.getfield 18, 3) := dk_180 0 18 (dk_at dksX3_init_2_1 0 rfl rfl)
theorem dX3_init_2_25 : decode cX3_init_2 25 = .ok (.putfield 18, 3) := dk_181 0 18 (dk_at dksX3_init_2_1 3 rfl rfl)
theorem dX3_init_2_28 : decode cX3_init_2 28 = .ok (.aload_n 0, 1) := dk_42 (dk_at dksX3_init_2_1 6 rfl rfl)
theorem dX3_init_2_29 : decode cX3_init_2 29 = .ok (.aload_n 1, 1) := dk_43 (dk_at dksX3_init_2_1 7 rfl rfl)
theorem dX3_init_2_30 : decode cX3_init_2 30 = .ok (.getfield 21, 3) := dk_180 0 21 (dk_at dksX3_init_2_1 8 rfl rfl)
theorem dX3_init_2_33 : decode cX3_init_2 33 = .ok (.putfield 21, 3) := dk_181 0 21 (dk_at dksX3_init_2_1 11 rfl rfl)
theorem dX3_init_2_36 : decode cX3_init_2 36 = .ok (.aload_n 0, 1) := dk_42 (dk_at dksX3_init_2_1 14 rfl rfl)
theorem dX3_init_2_37 : decode cX3_init_2 37 = .ok (.aload_n 1, 1) := dk_43 (dk_at dksX3_init_2_1 15 rfl rfl)
theorem dX3_init_2_38 : decode cX3_init_2 38 = .ok (.getfield 24, 3) := dk_180 0 24 (dk_at dksX3_init_2_1 16 rfl rfl)
theorem dX3_init_2_41 : decode cX3_init_2 41 = .ok (.putfield 24, 3) := dk_181 0 24 (dk_at dksX3_init_2_1 19 rfl rfl)
theorem dX3_init_2_44 : decode cX3_init_2 44 = .ok (.aload_n 0, 1) := dk_42 (dk_at dksX3_init_2_1 22 rfl rfl)
theorem dX3_init_2_45 : decode cX3_init_2 45 = .ok (.aload_n 1, 1) := dk_43 (dk_at dksX3_init_2_1 23 rfl rfl)
theorem dX3_init_2_46 : decode cX3_init_2 46 = .ok (.getfield 27, 3) := dk_180 0 27 (dk_at dksX3_init_2_2 0 rfl rfl)
theorem dX3_init_2_49 : decode cX3_init_2 49 = .ok (.putfield 27, 3) := dk_181 0 27 (dk_at dksX3_init_2_2 3 rfl rfl)
theorem dX3_init_2_52 : decode cX3_init_2 52 = .ok (.aload_n 0, 1) := dk_42 (dk_at dksX3_init_2_2 6 rfl rfl)
theorem dX3_init_2_53 : decode cX3_init_2 53 = .ok (.aload_n 1, 1) := dk_43 (dk_at dksX3_init_2_2 7 rfl rfl)
theorem dX3_init_2_54 : decode cX3_init_2 54 = .ok (.getfield 30, 3) := dk_180 0 30 (dk_at dksX3_init_2_2 8 rfl rfl)
theorem dX3_init_2_57 : decode cX3_init_2 57 = .ok (.putfield 30, 3) := dk_181 0 30 (dk_at dksX3_init_2_2 11 rfl rfl)
theorem dX3_init_2_60 : decode cX3_init_2 60 = .ok (.aload_n 0, 1) := dk_42 (dk_at dksX3_init_2_2 14 rfl rfl)
theorem dX3_init_2_61 : decode cX3_init_2 61 = .ok (.aload_n 1, 1) := dk_43 (dk_at dksX3_init_2_2 15 rfl rfl)
theorem dX3_init_2_62 : decode cX3_init_2 62 = .ok (.invokevirtual 36, 3) := dk_182 0 36 (dk_at dksX3_init_2_2 16 rfl rfl)
theorem dX3_init_2_65 : decode cX3_init_2 65 = .ok (.return_, 1) := dk_177 (dk_at dksX3_init_2_2 19 rfl rfl)
abbrev cX3_takes : ByteArray := prog_6_method_3_code
def yX3_takes : MethodName := ⟨RX3, "takes", "(LRoseProverbs$Proverb;)V"⟩
def dkwX3_takes_1 : List UInt8 := [42, 43, 180, 0, 46, 181, 0, 46, 177]
abbrev dktX3_takes_1 : List UInt8 := dkwX3_takes_1 ++ []
def dkwX3_takes_0 : List UInt8 := [42, 43, 180, 0, 33, 181, 0, 33, 42, 43, 180, 0, 40, 181, 0, 40, 42, 43, 180, 0, 43, 181, 0, 43]
abbrev dktX3_takes_0 : List UInt8 := dkwX3_takes_0 ++ dktX3_takes_1
theorem dksX3_takes_0 : cX3_takes.data.toList.drop 0 = dktX3_takes_0 := by decide +kernel
theorem dksX3_takes_1 : cX3_takes.data.toList.drop 24 = dktX3_takes_1 := dk_seg dksX3_takes_0 24 rfl rfl
theorem dX3_takes_0 : decode cX3_takes 0 = .ok (.aload_n 0, 1) := dk_42 (dk_at dksX3_takes_0 0 rfl rfl)
theorem dX3_takes_1 : decode cX3_takes 1 = .ok (.aload_n 1, 1) := dk_43 (dk_at dksX3_takes_0 1 rfl rfl)
theorem dX3_takes_2 : decode cX3_takes 2 = .ok (.getfield 33, 3) := dk_180 0 33 (dk_at dksX3_takes_0 2 rfl rfl)
theorem dX3_takes_5 : decode cX3_takes 5 = .ok (.putfield 33, 3) := dk_181 0 33 (dk_at dksX3_takes_0 5 rfl rfl)
theorem dX3_takes_8 : decode cX3_takes 8 = .ok (.aload_n 0, 1) := dk_42 (dk_at dksX3_takes_0 8 rfl rfl)
theorem dX3_takes_9 : decode cX3_takes 9 = .ok (.aload_n 1, 1) := dk_43 (dk_at dksX3_takes_0 9 rfl rfl)
theorem dX3_takes_10 : decode cX3_takes 10 = .ok (.getfield 40, 3) := dk_180 0 40 (dk_at dksX3_takes_0 10 rfl rfl)
theorem dX3_takes_13 : decode cX3_takes 13 = .ok (.putfield 40, 3) := dk_181 0 40 (dk_at dksX3_takes_0 13 rfl rfl)
theorem dX3_takes_16 : decode cX3_takes 16 = .ok (.aload_n 0, 1) := dk_42 (dk_at dksX3_takes_0 16 rfl rfl)
theorem dX3_takes_17 : decode cX3_takes 17 = .ok (.aload_n 1, 1) := dk_43 (dk_at dksX3_takes_0 17 rfl rfl)
theorem dX3_takes_18 : decode cX3_takes 18 = .ok (.getfield 43, 3) := dk_180 0 43 (dk_at dksX3_takes_0 18 rfl rfl)
theorem dX3_takes_21 : decode cX3_takes 21 = .ok (.putfield 43, 3) := dk_181 0 43 (dk_at dksX3_takes_0 21 rfl rfl)
theorem dX3_takes_24 : decode cX3_takes 24 = .ok (.aload_n 0, 1) := dk_42 (dk_at dksX3_takes_1 0 rfl rfl)
theorem dX3_takes_25 : decode cX3_takes 25 = .ok (.aload_n 1, 1) := dk_43 (dk_at dksX3_takes_1 1 rfl rfl)
theorem dX3_takes_26 : decode cX3_takes 26 = .ok (.getfield 46, 3) := dk_180 0 46 (dk_at dksX3_takes_1 2 rfl rfl)
theorem dX3_takes_29 : decode cX3_takes 29 = .ok (.putfield 46, 3) := dk_181 0 46 (dk_at dksX3_takes_1 5 rfl rfl)
theorem dX3_takes_32 : decode cX3_takes 32 = .ok (.return_, 1) := dk_177 (dk_at dksX3_takes_1 8 rfl rfl)
abbrev cX3_saying_2 : ByteArray := prog_6_method_4_code
def yX3_saying_2 : MethodName := ⟨RX3, "saying", "([I)I"⟩
def dkwX3_saying_2_1 : List UInt8 := [8, 104, 42, 7, 46, 96, 172]
abbrev dktX3_saying_2_1 : List UInt8 := dkwX3_saying_2_1 ++ []
def dkwX3_saying_2_0 : List UInt8 := [42, 3, 46, 16, 16, 104, 42, 4, 46, 96, 16, 12, 104, 42, 5, 46, 96, 16, 12, 104, 42, 6, 46, 96]
abbrev dktX3_saying_2_0 : List UInt8 := dkwX3_saying_2_0 ++ dktX3_saying_2_1
theorem dksX3_saying_2_0 : cX3_saying_2.data.toList.drop 0 = dktX3_saying_2_0 := by decide +kernel
theorem dksX3_saying_2_1 : cX3_saying_2.data.toList.drop 24 = dktX3_saying_2_1 := dk_seg dksX3_saying_2_0 24 rfl rfl
theorem dX3_saying_2_0 : decode cX3_saying_2 0 = .ok (.aload_n 0, 1) := dk_42 (dk_at dksX3_saying_2_0 0 rfl rfl)
theorem dX3_saying_2_1 : decode cX3_saying_2 1 = .ok (.iconst 0, 1) := dk_3 (dk_at dksX3_saying_2_0 1 rfl rfl)
theorem dX3_saying_2_2 : decode cX3_saying_2 2 = .ok (.iaload, 1) := dk_46 (dk_at dksX3_saying_2_0 2 rfl rfl)
theorem dX3_saying_2_3 : decode cX3_saying_2 3 = .ok (.bipush 16, 2) := dk_16 16 (dk_at dksX3_saying_2_0 3 rfl rfl)
theorem dX3_saying_2_5 : decode cX3_saying_2 5 = .ok (.imul, 1) := dk_104 (dk_at dksX3_saying_2_0 5 rfl rfl)
theorem dX3_saying_2_6 : decode cX3_saying_2 6 = .ok (.aload_n 0, 1) := dk_42 (dk_at dksX3_saying_2_0 6 rfl rfl)
theorem dX3_saying_2_7 : decode cX3_saying_2 7 = .ok (.iconst 1, 1) := dk_4 (dk_at dksX3_saying_2_0 7 rfl rfl)
theorem dX3_saying_2_8 : decode cX3_saying_2 8 = .ok (.iaload, 1) := dk_46 (dk_at dksX3_saying_2_0 8 rfl rfl)
theorem dX3_saying_2_9 : decode cX3_saying_2 9 = .ok (.iadd, 1) := dk_96 (dk_at dksX3_saying_2_0 9 rfl rfl)
theorem dX3_saying_2_10 : decode cX3_saying_2 10 = .ok (.bipush 12, 2) := dk_16 12 (dk_at dksX3_saying_2_0 10 rfl rfl)
theorem dX3_saying_2_12 : decode cX3_saying_2 12 = .ok (.imul, 1) := dk_104 (dk_at dksX3_saying_2_0 12 rfl rfl)
theorem dX3_saying_2_13 : decode cX3_saying_2 13 = .ok (.aload_n 0, 1) := dk_42 (dk_at dksX3_saying_2_0 13 rfl rfl)
theorem dX3_saying_2_14 : decode cX3_saying_2 14 = .ok (.iconst 2, 1) := dk_5 (dk_at dksX3_saying_2_0 14 rfl rfl)
theorem dX3_saying_2_15 : decode cX3_saying_2 15 = .ok (.iaload, 1) := dk_46 (dk_at dksX3_saying_2_0 15 rfl rfl)
theorem dX3_saying_2_16 : decode cX3_saying_2 16 = .ok (.iadd, 1) := dk_96 (dk_at dksX3_saying_2_0 16 rfl rfl)
theorem dX3_saying_2_17 : decode cX3_saying_2 17 = .ok (.bipush 12, 2) := dk_16 12 (dk_at dksX3_saying_2_0 17 rfl rfl)
theorem dX3_saying_2_19 : decode cX3_saying_2 19 = .ok (.imul, 1) := dk_104 (dk_at dksX3_saying_2_0 19 rfl rfl)
theorem dX3_saying_2_20 : decode cX3_saying_2 20 = .ok (.aload_n 0, 1) := dk_42 (dk_at dksX3_saying_2_0 20 rfl rfl)
theorem dX3_saying_2_21 : decode cX3_saying_2 21 = .ok (.iconst 3, 1) := dk_6 (dk_at dksX3_saying_2_0 21 rfl rfl)
theorem dX3_saying_2_22 : decode cX3_saying_2 22 = .ok (.iaload, 1) := dk_46 (dk_at dksX3_saying_2_0 22 rfl rfl)
theorem dX3_saying_2_23 : decode cX3_saying_2 23 = .ok (.iadd, 1) := dk_96 (dk_at dksX3_saying_2_0 23 rfl rfl)
theorem dX3_saying_2_24 : decode cX3_saying_2 24 = .ok (.iconst 5, 1) := dk_8 (dk_at dksX3_saying_2_1 0 rfl rfl)
theorem dX3_saying_2_25 : decode cX3_saying_2 25 = .ok (.imul, 1) := dk_104 (dk_at dksX3_saying_2_1 1 rfl rfl)
theorem dX3_saying_2_26 : decode cX3_saying_2 26 = .ok (.aload_n 0, 1) := dk_42 (dk_at dksX3_saying_2_1 2 rfl rfl)
theorem dX3_saying_2_27 : decode cX3_saying_2 27 = .ok (.iconst 4, 1) := dk_7 (dk_at dksX3_saying_2_1 3 rfl rfl)
theorem dX3_saying_2_28 : decode cX3_saying_2 28 = .ok (.iaload, 1) := dk_46 (dk_at dksX3_saying_2_1 4 rfl rfl)
theorem dX3_saying_2_29 : decode cX3_saying_2 29 = .ok (.iadd, 1) := dk_96 (dk_at dksX3_saying_2_1 5 rfl rfl)
theorem dX3_saying_2_30 : decode cX3_saying_2 30 = .ok (.ireturn, 1) := dk_172 (dk_at dksX3_saying_2_1 6 rfl rfl)
abbrev cX3_speaks : ByteArray := prog_6_method_9_code
def yX3_speaks : MethodName := ⟨RX3, "speaks", "(II)Z"⟩
def dkwX3_speaks_0 : List UInt8 := [42, 180, 0, 46, 154, 0, 16, 42, 27, 28, 182, 0, 67, 153, 0, 7, 4, 167, 0, 4, 3, 172]
abbrev dktX3_speaks_0 : List UInt8 := dkwX3_speaks_0 ++ []
theorem dksX3_speaks_0 : cX3_speaks.data.toList.drop 0 = dktX3_speaks_0 := by decide +kernel
theorem dX3_speaks_0 : decode cX3_speaks 0 = .ok (.aload_n 0, 1) := dk_42 (dk_at dksX3_speaks_0 0 rfl rfl)
theorem dX3_speaks_1 : decode cX3_speaks 1 = .ok (.getfield 46, 3) := dk_180 0 46 (dk_at dksX3_speaks_0 1 rfl rfl)
theorem dX3_speaks_4 : decode cX3_speaks 4 = .ok (.ifCond .ne 16, 3) := dk_154 0 16 (dk_at dksX3_speaks_0 4 rfl rfl)
theorem dX3_speaks_7 : decode cX3_speaks 7 = .ok (.aload_n 0, 1) := dk_42 (dk_at dksX3_speaks_0 7 rfl rfl)
theorem dX3_speaks_8 : decode cX3_speaks 8 = .ok (.iload_n 1, 1) := dk_27 (dk_at dksX3_speaks_0 8 rfl rfl)
theorem dX3_speaks_9 : decode cX3_speaks 9 = .ok (.iload_n 2, 1) := dk_28 (dk_at dksX3_speaks_0 9 rfl rfl)
theorem dX3_speaks_10 : decode cX3_speaks 10 = .ok (.invokevirtual 67, 3) := dk_182 0 67 (dk_at dksX3_speaks_0 10 rfl rfl)
theorem dX3_speaks_13 : decode cX3_speaks 13 = .ok (.ifCond .eq 7, 3) := dk_153 0 7 (dk_at dksX3_speaks_0 13 rfl rfl)
theorem dX3_speaks_16 : decode cX3_speaks 16 = .ok (.iconst 1, 1) := dk_4 (dk_at dksX3_speaks_0 16 rfl rfl)
theorem dX3_speaks_17 : decode cX3_speaks 17 = .ok (.goto 4, 3) := dk_167 0 4 (dk_at dksX3_speaks_0 17 rfl rfl)
theorem dX3_speaks_20 : decode cX3_speaks 20 = .ok (.iconst 0, 1) := dk_3 (dk_at dksX3_speaks_0 20 rfl rfl)
theorem dX3_speaks_21 : decode cX3_speaks 21 = .ok (.ireturn, 1) := dk_172 (dk_at dksX3_speaks_0 21 rfl rfl)
abbrev cX3_isAt : ByteArray := prog_6_method_8_code
def yX3_isAt : MethodName := ⟨RX3, "isAt", "(II)Z"⟩
def dkwX3_isAt_1 : List UInt8 := [180, 0, 21, 42, 180, 0, 24, 182, 0, 63, 153, 0, 7, 4, 167, 0, 4, 3, 172]
abbrev dktX3_isAt_1 : List UInt8 := dkwX3_isAt_1 ++ []
def dkwX3_isAt_0 : List UInt8 := [178, 0, 50, 27, 42, 180, 0, 15, 42, 180, 0, 18, 182, 0, 63, 153, 0, 25, 178, 0, 60, 28, 42]
abbrev dktX3_isAt_0 : List UInt8 := dkwX3_isAt_0 ++ dktX3_isAt_1
theorem dksX3_isAt_0 : cX3_isAt.data.toList.drop 0 = dktX3_isAt_0 := by decide +kernel
theorem dksX3_isAt_1 : cX3_isAt.data.toList.drop 23 = dktX3_isAt_1 := dk_seg dksX3_isAt_0 23 rfl rfl
theorem dX3_isAt_0 : decode cX3_isAt 0 = .ok (.getstatic 50, 3) := dk_178 0 50 (dk_at dksX3_isAt_0 0 rfl rfl)
theorem dX3_isAt_3 : decode cX3_isAt 3 = .ok (.iload_n 1, 1) := dk_27 (dk_at dksX3_isAt_0 3 rfl rfl)
theorem dX3_isAt_4 : decode cX3_isAt 4 = .ok (.aload_n 0, 1) := dk_42 (dk_at dksX3_isAt_0 4 rfl rfl)
theorem dX3_isAt_5 : decode cX3_isAt 5 = .ok (.getfield 15, 3) := dk_180 0 15 (dk_at dksX3_isAt_0 5 rfl rfl)
theorem dX3_isAt_8 : decode cX3_isAt 8 = .ok (.aload_n 0, 1) := dk_42 (dk_at dksX3_isAt_0 8 rfl rfl)
theorem dX3_isAt_9 : decode cX3_isAt 9 = .ok (.getfield 18, 3) := dk_180 0 18 (dk_at dksX3_isAt_0 9 rfl rfl)
theorem dX3_isAt_12 : decode cX3_isAt 12 = .ok (.invokevirtual 63, 3) := dk_182 0 63 (dk_at dksX3_isAt_0 12 rfl rfl)
theorem dX3_isAt_15 : decode cX3_isAt 15 = .ok (.ifCond .eq 25, 3) := dk_153 0 25 (dk_at dksX3_isAt_0 15 rfl rfl)
theorem dX3_isAt_18 : decode cX3_isAt 18 = .ok (.getstatic 60, 3) := dk_178 0 60 (dk_at dksX3_isAt_0 18 rfl rfl)
theorem dX3_isAt_21 : decode cX3_isAt 21 = .ok (.iload_n 2, 1) := dk_28 (dk_at dksX3_isAt_0 21 rfl rfl)
theorem dX3_isAt_22 : decode cX3_isAt 22 = .ok (.aload_n 0, 1) := dk_42 (dk_at dksX3_isAt_0 22 rfl rfl)
theorem dX3_isAt_23 : decode cX3_isAt 23 = .ok (.getfield 21, 3) := dk_180 0 21 (dk_at dksX3_isAt_1 0 rfl rfl)
theorem dX3_isAt_26 : decode cX3_isAt 26 = .ok (.aload_n 0, 1) := dk_42 (dk_at dksX3_isAt_1 3 rfl rfl)
theorem dX3_isAt_27 : decode cX3_isAt 27 = .ok (.getfield 24, 3) := dk_180 0 24 (dk_at dksX3_isAt_1 4 rfl rfl)
theorem dX3_isAt_30 : decode cX3_isAt 30 = .ok (.invokevirtual 63, 3) := dk_182 0 63 (dk_at dksX3_isAt_1 7 rfl rfl)
theorem dX3_isAt_33 : decode cX3_isAt 33 = .ok (.ifCond .eq 7, 3) := dk_153 0 7 (dk_at dksX3_isAt_1 10 rfl rfl)
theorem dX3_isAt_36 : decode cX3_isAt 36 = .ok (.iconst 1, 1) := dk_4 (dk_at dksX3_isAt_1 13 rfl rfl)
theorem dX3_isAt_37 : decode cX3_isAt 37 = .ok (.goto 4, 3) := dk_167 0 4 (dk_at dksX3_isAt_1 14 rfl rfl)
theorem dX3_isAt_40 : decode cX3_isAt 40 = .ok (.iconst 0, 1) := dk_3 (dk_at dksX3_isAt_1 17 rfl rfl)
theorem dX3_isAt_41 : decode cX3_isAt 41 = .ok (.ireturn, 1) := dk_172 (dk_at dksX3_isAt_1 18 rfl rfl)
abbrev cX3_learns : ByteArray := prog_6_method_12_code
def yX3_learns : MethodName := ⟨RX3, "learns", "(ZII)V"⟩
def dkwX3_learns_3 : List UInt8 := [4, 100, 184, 0, 80, 181, 0, 33, 177]
abbrev dktX3_learns_3 : List UInt8 := dkwX3_learns_3 ++ []
def dkwX3_learns_2 : List UInt8 := [180, 0, 43, 4, 96, 181, 0, 43, 42, 4, 42, 180, 0, 33, 42, 180, 0, 33, 29, 104, 16, 100, 108, 100]
abbrev dktX3_learns_2 : List UInt8 := dkwX3_learns_2 ++ dktX3_learns_3
def dkwX3_learns_1 : List UInt8 := [180, 0, 33, 28, 104, 16, 100, 108, 96, 4, 96, 184, 0, 75, 181, 0, 33, 167, 0, 37, 42, 89]
abbrev dktX3_learns_1 : List UInt8 := dkwX3_learns_1 ++ dktX3_learns_2
def dkwX3_learns_0 : List UInt8 := [27, 153, 0, 42, 42, 89, 180, 0, 40, 4, 96, 181, 0, 40, 42, 17, 3, 231, 42, 180, 0, 33, 42]
abbrev dktX3_learns_0 : List UInt8 := dkwX3_learns_0 ++ dktX3_learns_1
theorem dksX3_learns_0 : cX3_learns.data.toList.drop 0 = dktX3_learns_0 := by decide +kernel
theorem dksX3_learns_1 : cX3_learns.data.toList.drop 23 = dktX3_learns_1 := dk_seg dksX3_learns_0 23 rfl rfl
theorem dksX3_learns_2 : cX3_learns.data.toList.drop 45 = dktX3_learns_2 := dk_seg dksX3_learns_1 22 rfl rfl
theorem dksX3_learns_3 : cX3_learns.data.toList.drop 69 = dktX3_learns_3 := dk_seg dksX3_learns_2 24 rfl rfl
theorem dX3_learns_0 : decode cX3_learns 0 = .ok (.iload_n 1, 1) := dk_27 (dk_at dksX3_learns_0 0 rfl rfl)
theorem dX3_learns_1 : decode cX3_learns 1 = .ok (.ifCond .eq 42, 3) := dk_153 0 42 (dk_at dksX3_learns_0 1 rfl rfl)
theorem dX3_learns_4 : decode cX3_learns 4 = .ok (.aload_n 0, 1) := dk_42 (dk_at dksX3_learns_0 4 rfl rfl)
theorem dX3_learns_5 : decode cX3_learns 5 = .ok (.dup, 1) := dk_89 (dk_at dksX3_learns_0 5 rfl rfl)
theorem dX3_learns_6 : decode cX3_learns 6 = .ok (.getfield 40, 3) := dk_180 0 40 (dk_at dksX3_learns_0 6 rfl rfl)
theorem dX3_learns_9 : decode cX3_learns 9 = .ok (.iconst 1, 1) := dk_4 (dk_at dksX3_learns_0 9 rfl rfl)
theorem dX3_learns_10 : decode cX3_learns 10 = .ok (.iadd, 1) := dk_96 (dk_at dksX3_learns_0 10 rfl rfl)
theorem dX3_learns_11 : decode cX3_learns 11 = .ok (.putfield 40, 3) := dk_181 0 40 (dk_at dksX3_learns_0 11 rfl rfl)
theorem dX3_learns_14 : decode cX3_learns 14 = .ok (.aload_n 0, 1) := dk_42 (dk_at dksX3_learns_0 14 rfl rfl)
theorem dX3_learns_15 : decode cX3_learns 15 = .ok (.sipush 999, 3) := dk_17 3 231 (dk_at dksX3_learns_0 15 rfl rfl)
theorem dX3_learns_18 : decode cX3_learns 18 = .ok (.aload_n 0, 1) := dk_42 (dk_at dksX3_learns_0 18 rfl rfl)
theorem dX3_learns_19 : decode cX3_learns 19 = .ok (.getfield 33, 3) := dk_180 0 33 (dk_at dksX3_learns_0 19 rfl rfl)
theorem dX3_learns_22 : decode cX3_learns 22 = .ok (.aload_n 0, 1) := dk_42 (dk_at dksX3_learns_0 22 rfl rfl)
theorem dX3_learns_23 : decode cX3_learns 23 = .ok (.getfield 33, 3) := dk_180 0 33 (dk_at dksX3_learns_1 0 rfl rfl)
theorem dX3_learns_26 : decode cX3_learns 26 = .ok (.iload_n 2, 1) := dk_28 (dk_at dksX3_learns_1 3 rfl rfl)
theorem dX3_learns_27 : decode cX3_learns 27 = .ok (.imul, 1) := dk_104 (dk_at dksX3_learns_1 4 rfl rfl)
theorem dX3_learns_28 : decode cX3_learns 28 = .ok (.bipush 100, 2) := dk_16 100 (dk_at dksX3_learns_1 5 rfl rfl)
theorem dX3_learns_30 : decode cX3_learns 30 = .ok (.idiv, 1) := dk_108 (dk_at dksX3_learns_1 7 rfl rfl)
theorem dX3_learns_31 : decode cX3_learns 31 = .ok (.iadd, 1) := dk_96 (dk_at dksX3_learns_1 8 rfl rfl)
theorem dX3_learns_32 : decode cX3_learns 32 = .ok (.iconst 1, 1) := dk_4 (dk_at dksX3_learns_1 9 rfl rfl)
theorem dX3_learns_33 : decode cX3_learns 33 = .ok (.iadd, 1) := dk_96 (dk_at dksX3_learns_1 10 rfl rfl)
theorem dX3_learns_34 : decode cX3_learns 34 = .ok (.invokestatic 75, 3) := dk_184 0 75 (dk_at dksX3_learns_1 11 rfl rfl)
theorem dX3_learns_37 : decode cX3_learns 37 = .ok (.putfield 33, 3) := dk_181 0 33 (dk_at dksX3_learns_1 14 rfl rfl)
theorem dX3_learns_40 : decode cX3_learns 40 = .ok (.goto 37, 3) := dk_167 0 37 (dk_at dksX3_learns_1 17 rfl rfl)
theorem dX3_learns_43 : decode cX3_learns 43 = .ok (.aload_n 0, 1) := dk_42 (dk_at dksX3_learns_1 20 rfl rfl)
theorem dX3_learns_44 : decode cX3_learns 44 = .ok (.dup, 1) := dk_89 (dk_at dksX3_learns_1 21 rfl rfl)
theorem dX3_learns_45 : decode cX3_learns 45 = .ok (.getfield 43, 3) := dk_180 0 43 (dk_at dksX3_learns_2 0 rfl rfl)
theorem dX3_learns_48 : decode cX3_learns 48 = .ok (.iconst 1, 1) := dk_4 (dk_at dksX3_learns_2 3 rfl rfl)
theorem dX3_learns_49 : decode cX3_learns 49 = .ok (.iadd, 1) := dk_96 (dk_at dksX3_learns_2 4 rfl rfl)
theorem dX3_learns_50 : decode cX3_learns 50 = .ok (.putfield 43, 3) := dk_181 0 43 (dk_at dksX3_learns_2 5 rfl rfl)
theorem dX3_learns_53 : decode cX3_learns 53 = .ok (.aload_n 0, 1) := dk_42 (dk_at dksX3_learns_2 8 rfl rfl)
theorem dX3_learns_54 : decode cX3_learns 54 = .ok (.iconst 1, 1) := dk_4 (dk_at dksX3_learns_2 9 rfl rfl)
theorem dX3_learns_55 : decode cX3_learns 55 = .ok (.aload_n 0, 1) := dk_42 (dk_at dksX3_learns_2 10 rfl rfl)
theorem dX3_learns_56 : decode cX3_learns 56 = .ok (.getfield 33, 3) := dk_180 0 33 (dk_at dksX3_learns_2 11 rfl rfl)
theorem dX3_learns_59 : decode cX3_learns 59 = .ok (.aload_n 0, 1) := dk_42 (dk_at dksX3_learns_2 14 rfl rfl)
theorem dX3_learns_60 : decode cX3_learns 60 = .ok (.getfield 33, 3) := dk_180 0 33 (dk_at dksX3_learns_2 15 rfl rfl)
theorem dX3_learns_63 : decode cX3_learns 63 = .ok (.iload_n 3, 1) := dk_29 (dk_at dksX3_learns_2 18 rfl rfl)
theorem dX3_learns_64 : decode cX3_learns 64 = .ok (.imul, 1) := dk_104 (dk_at dksX3_learns_2 19 rfl rfl)
theorem dX3_learns_65 : decode cX3_learns 65 = .ok (.bipush 100, 2) := dk_16 100 (dk_at dksX3_learns_2 20 rfl rfl)
theorem dX3_learns_67 : decode cX3_learns 67 = .ok (.idiv, 1) := dk_108 (dk_at dksX3_learns_2 22 rfl rfl)
theorem dX3_learns_68 : decode cX3_learns 68 = .ok (.isub, 1) := dk_100 (dk_at dksX3_learns_2 23 rfl rfl)
theorem dX3_learns_69 : decode cX3_learns 69 = .ok (.iconst 1, 1) := dk_4 (dk_at dksX3_learns_3 0 rfl rfl)
theorem dX3_learns_70 : decode cX3_learns 70 = .ok (.isub, 1) := dk_100 (dk_at dksX3_learns_3 1 rfl rfl)
theorem dX3_learns_71 : decode cX3_learns 71 = .ok (.invokestatic 80, 3) := dk_184 0 80 (dk_at dksX3_learns_3 2 rfl rfl)
theorem dX3_learns_74 : decode cX3_learns 74 = .ok (.putfield 33, 3) := dk_181 0 33 (dk_at dksX3_learns_3 5 rfl rfl)
theorem dX3_learns_77 : decode cX3_learns 77 = .ok (.return_, 1) := dk_177 (dk_at dksX3_learns_3 8 rfl rfl)
abbrev cX3_clashes : ByteArray := prog_6_method_11_code
def yX3_clashes : MethodName := ⟨RX3, "clashes", "(LRoseProverbs$Proverb;)Z"⟩
def dkwX3_clashes_1 : List UInt8 := [159, 0, 15, 42, 43, 182, 0, 71, 153, 0, 7, 4, 167, 0, 4, 3, 172]
abbrev dktX3_clashes_1 : List UInt8 := dkwX3_clashes_1 ++ []
def dkwX3_clashes_0 : List UInt8 := [42, 180, 0, 46, 154, 0, 33, 43, 180, 0, 46, 154, 0, 26, 42, 180, 0, 27, 43, 180, 0, 27]
abbrev dktX3_clashes_0 : List UInt8 := dkwX3_clashes_0 ++ dktX3_clashes_1
theorem dksX3_clashes_0 : cX3_clashes.data.toList.drop 0 = dktX3_clashes_0 := by decide +kernel
theorem dksX3_clashes_1 : cX3_clashes.data.toList.drop 22 = dktX3_clashes_1 := dk_seg dksX3_clashes_0 22 rfl rfl
theorem dX3_clashes_0 : decode cX3_clashes 0 = .ok (.aload_n 0, 1) := dk_42 (dk_at dksX3_clashes_0 0 rfl rfl)
theorem dX3_clashes_1 : decode cX3_clashes 1 = .ok (.getfield 46, 3) := dk_180 0 46 (dk_at dksX3_clashes_0 1 rfl rfl)
theorem dX3_clashes_4 : decode cX3_clashes 4 = .ok (.ifCond .ne 33, 3) := dk_154 0 33 (dk_at dksX3_clashes_0 4 rfl rfl)
theorem dX3_clashes_7 : decode cX3_clashes 7 = .ok (.aload_n 1, 1) := dk_43 (dk_at dksX3_clashes_0 7 rfl rfl)
theorem dX3_clashes_8 : decode cX3_clashes 8 = .ok (.getfield 46, 3) := dk_180 0 46 (dk_at dksX3_clashes_0 8 rfl rfl)
theorem dX3_clashes_11 : decode cX3_clashes 11 = .ok (.ifCond .ne 26, 3) := dk_154 0 26 (dk_at dksX3_clashes_0 11 rfl rfl)
theorem dX3_clashes_14 : decode cX3_clashes 14 = .ok (.aload_n 0, 1) := dk_42 (dk_at dksX3_clashes_0 14 rfl rfl)
theorem dX3_clashes_15 : decode cX3_clashes 15 = .ok (.getfield 27, 3) := dk_180 0 27 (dk_at dksX3_clashes_0 15 rfl rfl)
theorem dX3_clashes_18 : decode cX3_clashes 18 = .ok (.aload_n 1, 1) := dk_43 (dk_at dksX3_clashes_0 18 rfl rfl)
theorem dX3_clashes_19 : decode cX3_clashes 19 = .ok (.getfield 27, 3) := dk_180 0 27 (dk_at dksX3_clashes_0 19 rfl rfl)
theorem dX3_clashes_22 : decode cX3_clashes 22 = .ok (.if_icmp .eq 15, 3) := dk_159 0 15 (dk_at dksX3_clashes_1 0 rfl rfl)
theorem dX3_clashes_25 : decode cX3_clashes 25 = .ok (.aload_n 0, 1) := dk_42 (dk_at dksX3_clashes_1 3 rfl rfl)
theorem dX3_clashes_26 : decode cX3_clashes 26 = .ok (.aload_n 1, 1) := dk_43 (dk_at dksX3_clashes_1 4 rfl rfl)
theorem dX3_clashes_27 : decode cX3_clashes 27 = .ok (.invokevirtual 71, 3) := dk_182 0 71 (dk_at dksX3_clashes_1 5 rfl rfl)
theorem dX3_clashes_30 : decode cX3_clashes 30 = .ok (.ifCond .eq 7, 3) := dk_153 0 7 (dk_at dksX3_clashes_1 8 rfl rfl)
theorem dX3_clashes_33 : decode cX3_clashes 33 = .ok (.iconst 1, 1) := dk_4 (dk_at dksX3_clashes_1 11 rfl rfl)
theorem dX3_clashes_34 : decode cX3_clashes 34 = .ok (.goto 4, 3) := dk_167 0 4 (dk_at dksX3_clashes_1 12 rfl rfl)
theorem dX3_clashes_37 : decode cX3_clashes 37 = .ok (.iconst 0, 1) := dk_3 (dk_at dksX3_clashes_1 15 rfl rfl)
theorem dX3_clashes_38 : decode cX3_clashes 38 = .ok (.ireturn, 1) := dk_172 (dk_at dksX3_clashes_1 16 rfl rfl)
abbrev cX3_meets : ByteArray := prog_6_method_10_code
def yX3_meets : MethodName := ⟨RX3, "meets", "(LRoseProverbs$Proverb;)Z"⟩
def dkwX3_meets_4 : List UInt8 := [28, 153, 0, 11, 29, 153, 0, 7, 4, 167, 0, 4, 3, 172]
abbrev dktX3_meets_4 : List UInt8 := dkwX3_meets_4 ++ []
def dkwX3_meets_3 : List UInt8 := [43, 180, 0, 21, 42, 180, 0, 21, 42, 180, 0, 24, 182, 0, 63, 153, 0, 7, 4, 167, 0, 4, 3, 62]
abbrev dktX3_meets_3 : List UInt8 := dkwX3_meets_3 ++ dktX3_meets_4
def dkwX3_meets_2 : List UInt8 := [178, 0, 60, 42, 180, 0, 21, 43, 180, 0, 21, 43, 180, 0, 24, 182, 0, 63, 154, 0, 24, 178, 0, 60]
abbrev dktX3_meets_2 : List UInt8 := dkwX3_meets_2 ++ dktX3_meets_3
def dkwX3_meets_1 : List UInt8 := [43, 180, 0, 15, 42, 180, 0, 15, 42, 180, 0, 18, 182, 0, 63, 153, 0, 7, 4, 167, 0, 4, 3, 61]
abbrev dktX3_meets_1 : List UInt8 := dkwX3_meets_1 ++ dktX3_meets_2
def dkwX3_meets_0 : List UInt8 := [178, 0, 50, 42, 180, 0, 15, 43, 180, 0, 15, 43, 180, 0, 18, 182, 0, 63, 154, 0, 24, 178, 0, 50]
abbrev dktX3_meets_0 : List UInt8 := dkwX3_meets_0 ++ dktX3_meets_1
theorem dksX3_meets_0 : cX3_meets.data.toList.drop 0 = dktX3_meets_0 := by decide +kernel
theorem dksX3_meets_1 : cX3_meets.data.toList.drop 24 = dktX3_meets_1 := dk_seg dksX3_meets_0 24 rfl rfl
theorem dksX3_meets_2 : cX3_meets.data.toList.drop 48 = dktX3_meets_2 := dk_seg dksX3_meets_1 24 rfl rfl
theorem dksX3_meets_3 : cX3_meets.data.toList.drop 72 = dktX3_meets_3 := dk_seg dksX3_meets_2 24 rfl rfl
theorem dksX3_meets_4 : cX3_meets.data.toList.drop 96 = dktX3_meets_4 := dk_seg dksX3_meets_3 24 rfl rfl
theorem dX3_meets_0 : decode cX3_meets 0 = .ok (.getstatic 50, 3) := dk_178 0 50 (dk_at dksX3_meets_0 0 rfl rfl)
theorem dX3_meets_3 : decode cX3_meets 3 = .ok (.aload_n 0, 1) := dk_42 (dk_at dksX3_meets_0 3 rfl rfl)
theorem dX3_meets_4 : decode cX3_meets 4 = .ok (.getfield 15, 3) := dk_180 0 15 (dk_at dksX3_meets_0 4 rfl rfl)
theorem dX3_meets_7 : decode cX3_meets 7 = .ok (.aload_n 1, 1) := dk_43 (dk_at dksX3_meets_0 7 rfl rfl)
theorem dX3_meets_8 : decode cX3_meets 8 = .ok (.getfield 15, 3) := dk_180 0 15 (dk_at dksX3_meets_0 8 rfl rfl)
theorem dX3_meets_11 : decode cX3_meets 11 = .ok (.aload_n 1, 1) := dk_43 (dk_at dksX3_meets_0 11 rfl rfl)
theorem dX3_meets_12 : decode cX3_meets 12 = .ok (.getfield 18, 3) := dk_180 0 18 (dk_at dksX3_meets_0 12 rfl rfl)
theorem dX3_meets_15 : decode cX3_meets 15 = .ok (.invokevirtual 63, 3) := dk_182 0 63 (dk_at dksX3_meets_0 15 rfl rfl)
theorem dX3_meets_18 : decode cX3_meets 18 = .ok (.ifCond .ne 24, 3) := dk_154 0 24 (dk_at dksX3_meets_0 18 rfl rfl)
theorem dX3_meets_21 : decode cX3_meets 21 = .ok (.getstatic 50, 3) := dk_178 0 50 (dk_at dksX3_meets_0 21 rfl rfl)
theorem dX3_meets_24 : decode cX3_meets 24 = .ok (.aload_n 1, 1) := dk_43 (dk_at dksX3_meets_1 0 rfl rfl)
theorem dX3_meets_25 : decode cX3_meets 25 = .ok (.getfield 15, 3) := dk_180 0 15 (dk_at dksX3_meets_1 1 rfl rfl)
theorem dX3_meets_28 : decode cX3_meets 28 = .ok (.aload_n 0, 1) := dk_42 (dk_at dksX3_meets_1 4 rfl rfl)
theorem dX3_meets_29 : decode cX3_meets 29 = .ok (.getfield 15, 3) := dk_180 0 15 (dk_at dksX3_meets_1 5 rfl rfl)
theorem dX3_meets_32 : decode cX3_meets 32 = .ok (.aload_n 0, 1) := dk_42 (dk_at dksX3_meets_1 8 rfl rfl)
theorem dX3_meets_33 : decode cX3_meets 33 = .ok (.getfield 18, 3) := dk_180 0 18 (dk_at dksX3_meets_1 9 rfl rfl)
theorem dX3_meets_36 : decode cX3_meets 36 = .ok (.invokevirtual 63, 3) := dk_182 0 63 (dk_at dksX3_meets_1 12 rfl rfl)
theorem dX3_meets_39 : decode cX3_meets 39 = .ok (.ifCond .eq 7, 3) := dk_153 0 7 (dk_at dksX3_meets_1 15 rfl rfl)
theorem dX3_meets_42 : decode cX3_meets 42 = .ok (.iconst 1, 1) := dk_4 (dk_at dksX3_meets_1 18 rfl rfl)
theorem dX3_meets_43 : decode cX3_meets 43 = .ok (.goto 4, 3) := dk_167 0 4 (dk_at dksX3_meets_1 19 rfl rfl)
theorem dX3_meets_46 : decode cX3_meets 46 = .ok (.iconst 0, 1) := dk_3 (dk_at dksX3_meets_1 22 rfl rfl)
theorem dX3_meets_47 : decode cX3_meets 47 = .ok (.istore_n 2, 1) := dk_61 (dk_at dksX3_meets_1 23 rfl rfl)
theorem dX3_meets_48 : decode cX3_meets 48 = .ok (.getstatic 60, 3) := dk_178 0 60 (dk_at dksX3_meets_2 0 rfl rfl)
theorem dX3_meets_51 : decode cX3_meets 51 = .ok (.aload_n 0, 1) := dk_42 (dk_at dksX3_meets_2 3 rfl rfl)
theorem dX3_meets_52 : decode cX3_meets 52 = .ok (.getfield 21, 3) := dk_180 0 21 (dk_at dksX3_meets_2 4 rfl rfl)
theorem dX3_meets_55 : decode cX3_meets 55 = .ok (.aload_n 1, 1) := dk_43 (dk_at dksX3_meets_2 7 rfl rfl)
theorem dX3_meets_56 : decode cX3_meets 56 = .ok (.getfield 21, 3) := dk_180 0 21 (dk_at dksX3_meets_2 8 rfl rfl)
theorem dX3_meets_59 : decode cX3_meets 59 = .ok (.aload_n 1, 1) := dk_43 (dk_at dksX3_meets_2 11 rfl rfl)
theorem dX3_meets_60 : decode cX3_meets 60 = .ok (.getfield 24, 3) := dk_180 0 24 (dk_at dksX3_meets_2 12 rfl rfl)
theorem dX3_meets_63 : decode cX3_meets 63 = .ok (.invokevirtual 63, 3) := dk_182 0 63 (dk_at dksX3_meets_2 15 rfl rfl)
theorem dX3_meets_66 : decode cX3_meets 66 = .ok (.ifCond .ne 24, 3) := dk_154 0 24 (dk_at dksX3_meets_2 18 rfl rfl)
theorem dX3_meets_69 : decode cX3_meets 69 = .ok (.getstatic 60, 3) := dk_178 0 60 (dk_at dksX3_meets_2 21 rfl rfl)
theorem dX3_meets_72 : decode cX3_meets 72 = .ok (.aload_n 1, 1) := dk_43 (dk_at dksX3_meets_3 0 rfl rfl)
theorem dX3_meets_73 : decode cX3_meets 73 = .ok (.getfield 21, 3) := dk_180 0 21 (dk_at dksX3_meets_3 1 rfl rfl)
theorem dX3_meets_76 : decode cX3_meets 76 = .ok (.aload_n 0, 1) := dk_42 (dk_at dksX3_meets_3 4 rfl rfl)
theorem dX3_meets_77 : decode cX3_meets 77 = .ok (.getfield 21, 3) := dk_180 0 21 (dk_at dksX3_meets_3 5 rfl rfl)
theorem dX3_meets_80 : decode cX3_meets 80 = .ok (.aload_n 0, 1) := dk_42 (dk_at dksX3_meets_3 8 rfl rfl)
theorem dX3_meets_81 : decode cX3_meets 81 = .ok (.getfield 24, 3) := dk_180 0 24 (dk_at dksX3_meets_3 9 rfl rfl)
theorem dX3_meets_84 : decode cX3_meets 84 = .ok (.invokevirtual 63, 3) := dk_182 0 63 (dk_at dksX3_meets_3 12 rfl rfl)
theorem dX3_meets_87 : decode cX3_meets 87 = .ok (.ifCond .eq 7, 3) := dk_153 0 7 (dk_at dksX3_meets_3 15 rfl rfl)
theorem dX3_meets_90 : decode cX3_meets 90 = .ok (.iconst 1, 1) := dk_4 (dk_at dksX3_meets_3 18 rfl rfl)
theorem dX3_meets_91 : decode cX3_meets 91 = .ok (.goto 4, 3) := dk_167 0 4 (dk_at dksX3_meets_3 19 rfl rfl)
theorem dX3_meets_94 : decode cX3_meets 94 = .ok (.iconst 0, 1) := dk_3 (dk_at dksX3_meets_3 22 rfl rfl)
theorem dX3_meets_95 : decode cX3_meets 95 = .ok (.istore_n 3, 1) := dk_62 (dk_at dksX3_meets_3 23 rfl rfl)
theorem dX3_meets_96 : decode cX3_meets 96 = .ok (.iload_n 2, 1) := dk_28 (dk_at dksX3_meets_4 0 rfl rfl)
theorem dX3_meets_97 : decode cX3_meets 97 = .ok (.ifCond .eq 11, 3) := dk_153 0 11 (dk_at dksX3_meets_4 1 rfl rfl)
theorem dX3_meets_100 : decode cX3_meets 100 = .ok (.iload_n 3, 1) := dk_29 (dk_at dksX3_meets_4 4 rfl rfl)
theorem dX3_meets_101 : decode cX3_meets 101 = .ok (.ifCond .eq 7, 3) := dk_153 0 7 (dk_at dksX3_meets_4 5 rfl rfl)
theorem dX3_meets_104 : decode cX3_meets 104 = .ok (.iconst 1, 1) := dk_4 (dk_at dksX3_meets_4 8 rfl rfl)
theorem dX3_meets_105 : decode cX3_meets 105 = .ok (.goto 4, 3) := dk_167 0 4 (dk_at dksX3_meets_4 9 rfl rfl)
theorem dX3_meets_108 : decode cX3_meets 108 = .ok (.iconst 0, 1) := dk_3 (dk_at dksX3_meets_4 12 rfl rfl)
theorem dX3_meets_109 : decode cX3_meets 109 = .ok (.ireturn, 1) := dk_172 (dk_at dksX3_meets_4 13 rfl rfl)
abbrev cX3_points : ByteArray := prog_6_method_6_code
def yX3_points : MethodName := ⟨RX3, "points", "()I"⟩
def dkwX3_points_0 : List UInt8 := [178, 0, 50, 42, 180, 0, 15, 42, 180, 0, 18, 182, 0, 54, 4, 96, 172]
abbrev dktX3_points_0 : List UInt8 := dkwX3_points_0 ++ []
theorem dksX3_points_0 : cX3_points.data.toList.drop 0 = dktX3_points_0 := by decide +kernel
theorem dX3_points_0 : decode cX3_points 0 = .ok (.getstatic 50, 3) := dk_178 0 50 (dk_at dksX3_points_0 0 rfl rfl)
theorem dX3_points_3 : decode cX3_points 3 = .ok (.aload_n 0, 1) := dk_42 (dk_at dksX3_points_0 3 rfl rfl)
theorem dX3_points_4 : decode cX3_points 4 = .ok (.getfield 15, 3) := dk_180 0 15 (dk_at dksX3_points_0 4 rfl rfl)
theorem dX3_points_7 : decode cX3_points 7 = .ok (.aload_n 0, 1) := dk_42 (dk_at dksX3_points_0 7 rfl rfl)
theorem dX3_points_8 : decode cX3_points 8 = .ok (.getfield 18, 3) := dk_180 0 18 (dk_at dksX3_points_0 8 rfl rfl)
theorem dX3_points_11 : decode cX3_points 11 = .ok (.invokevirtual 54, 3) := dk_182 0 54 (dk_at dksX3_points_0 11 rfl rfl)
theorem dX3_points_14 : decode cX3_points 14 = .ok (.iconst 1, 1) := dk_4 (dk_at dksX3_points_0 14 rfl rfl)
theorem dX3_points_15 : decode cX3_points 15 = .ok (.iadd, 1) := dk_96 (dk_at dksX3_points_0 15 rfl rfl)
theorem dX3_points_16 : decode cX3_points 16 = .ok (.ireturn, 1) := dk_172 (dk_at dksX3_points_0 16 rfl rfl)
abbrev cX3_months : ByteArray := prog_6_method_7_code
def yX3_months : MethodName := ⟨RX3, "months", "()I"⟩
def dkwX3_months_0 : List UInt8 := [178, 0, 60, 42, 180, 0, 21, 42, 180, 0, 24, 182, 0, 54, 4, 96, 172]
abbrev dktX3_months_0 : List UInt8 := dkwX3_months_0 ++ []
theorem dksX3_months_0 : cX3_months.data.toList.drop 0 = dktX3_months_0 := by decide +kernel
theorem dX3_months_0 : decode cX3_months 0 = .ok (.getstatic 60, 3) := dk_178 0 60 (dk_at dksX3_months_0 0 rfl rfl)
theorem dX3_months_3 : decode cX3_months 3 = .ok (.aload_n 0, 1) := dk_42 (dk_at dksX3_months_0 3 rfl rfl)
theorem dX3_months_4 : decode cX3_months 4 = .ok (.getfield 21, 3) := dk_180 0 21 (dk_at dksX3_months_0 4 rfl rfl)
theorem dX3_months_7 : decode cX3_months 7 = .ok (.aload_n 0, 1) := dk_42 (dk_at dksX3_months_0 7 rfl rfl)
theorem dX3_months_8 : decode cX3_months 8 = .ok (.getfield 24, 3) := dk_180 0 24 (dk_at dksX3_months_0 8 rfl rfl)
theorem dX3_months_11 : decode cX3_months 11 = .ok (.invokevirtual 54, 3) := dk_182 0 54 (dk_at dksX3_months_0 11 rfl rfl)
theorem dX3_months_14 : decode cX3_months 14 = .ok (.iconst 1, 1) := dk_4 (dk_at dksX3_months_0 14 rfl rfl)
theorem dX3_months_15 : decode cX3_months 15 = .ok (.iadd, 1) := dk_96 (dk_at dksX3_months_0 15 rfl rfl)
theorem dX3_months_16 : decode cX3_months 16 = .ok (.ireturn, 1) := dk_172 (dk_at dksX3_months_0 16 rfl rfl)
theorem q156 : (Jvm.Cond.initialized "RoseProverbs$Proverb") ∈ lw_all := lw_g (lw_at lw_m1 24 rfl) rfl
theorem q673 : (Jvm.Cond.instantiable "RoseProverbs$Proverb" (11 : Nat)) ∈ lw_all := lw_g (lw_at lw_m3 61 rfl) rfl
theorem q685 : (Jvm.Cond.instanceMethod ({ cls := "RoseProverbs$Proverb", name := "<init>", desc := "(I[I)V" } : Jvm.MethodName)) ∈ lw_all := lw_g (lw_at lw_m3 73 rfl) rfl
theorem q686 : (Jvm.Cond.code ({ cls := "RoseProverbs$Proverb", name := "<init>", desc := "(I[I)V" } : Jvm.MethodName) prog_6_method_1_code (3 : Nat) (Option.none : Option Jvm.ClassFile.FieldType)) ∈ lw_all := lw_g (lw_at lw_m3 74 rfl) rfl
theorem q687 : (Jvm.Cond.methodLink "RoseProverbs$Proverb" (3 : Nat) ({ cls := "java/lang/Object", name := "<init>", desc := "()V" } : Jvm.MethodName)) ∈ lw_all := lw_g (lw_at lw_m3 75 rfl) rfl
theorem q688 : (Jvm.Cond.fieldLink "RoseProverbs$Proverb" (9 : Nat) "RoseProverbs$Proverb" "number" "I") ∈ lw_all := lw_g (lw_at lw_m3 76 rfl) rfl
theorem q692 : (Jvm.Cond.fieldLink "RoseProverbs$Proverb" (15 : Nat) "RoseProverbs$Proverb" "from" "I") ∈ lw_all := lw_g (lw_at lw_m3 80 rfl) rfl
theorem q694 : (Jvm.Cond.fieldLink "RoseProverbs$Proverb" (18 : Nat) "RoseProverbs$Proverb" "to" "I") ∈ lw_all := lw_g (lw_at lw_m3 82 rfl) rfl
theorem q696 : (Jvm.Cond.fieldLink "RoseProverbs$Proverb" (21 : Nat) "RoseProverbs$Proverb" "first" "I") ∈ lw_all := lw_g (lw_at lw_m3 84 rfl) rfl
theorem q698 : (Jvm.Cond.fieldLink "RoseProverbs$Proverb" (24 : Nat) "RoseProverbs$Proverb" "last" "I") ∈ lw_all := lw_g (lw_at lw_m3 86 rfl) rfl
theorem q700 : (Jvm.Cond.fieldLink "RoseProverbs$Proverb" (27 : Nat) "RoseProverbs$Proverb" "weather" "I") ∈ lw_all := lw_g (lw_at lw_m3 88 rfl) rfl
theorem q703 : (Jvm.Cond.fieldLink "RoseProverbs$Proverb" (30 : Nat) "RoseProverbs$Proverb" "start" "I") ∈ lw_all := lw_g (lw_at lw_m3 91 rfl) rfl
theorem q706 : (Jvm.Cond.fieldLink "RoseProverbs$Proverb" (33 : Nat) "RoseProverbs$Proverb" "weight" "I") ∈ lw_all := lw_g (lw_at lw_m3 94 rfl) rfl
theorem q710 : (Jvm.Cond.fieldLink "RoseProverbs$Proverb" (40 : Nat) "RoseProverbs$Proverb" "right" "I") ∈ lw_all := lw_g (lw_at lw_m3 98 rfl) rfl
theorem q712 : (Jvm.Cond.fieldLink "RoseProverbs$Proverb" (43 : Nat) "RoseProverbs$Proverb" "wrong" "I") ∈ lw_all := lw_g (lw_at lw_m3 100 rfl) rfl
theorem q715 : (Jvm.Cond.fieldLink "RoseProverbs$Proverb" (46 : Nat) "RoseProverbs$Proverb" "forgotten" "Z") ∈ lw_all := lw_g (lw_at lw_m3 103 rfl) rfl
theorem q718 : (Jvm.Cond.laysFinal "RoseProverbs$Proverb" "RoseProverbs$Proverb" "number" "I") ∈ lw_all := lw_g (lw_at lw_m3 106 rfl) rfl
theorem q719 : (Jvm.Cond.soleField "RoseProverbs$Proverb" "number") ∈ lw_all := lw_g (lw_at lw_m3 107 rfl) rfl
theorem q720 : (Jvm.Cond.laysFinal "RoseProverbs$Proverb" "RoseProverbs$Proverb" "from" "I") ∈ lw_all := lw_g (lw_at lw_m3 108 rfl) rfl
theorem q721 : (Jvm.Cond.soleField "RoseProverbs$Proverb" "from") ∈ lw_all := lw_g (lw_at lw_m3 109 rfl) rfl
theorem q722 : (Jvm.Cond.laysFinal "RoseProverbs$Proverb" "RoseProverbs$Proverb" "to" "I") ∈ lw_all := lw_g (lw_at lw_m3 110 rfl) rfl
theorem q723 : (Jvm.Cond.soleField "RoseProverbs$Proverb" "to") ∈ lw_all := lw_g (lw_at lw_m3 111 rfl) rfl
theorem q724 : (Jvm.Cond.laysFinal "RoseProverbs$Proverb" "RoseProverbs$Proverb" "first" "I") ∈ lw_all := lw_g (lw_at lw_m3 112 rfl) rfl
theorem q725 : (Jvm.Cond.soleField "RoseProverbs$Proverb" "first") ∈ lw_all := lw_g (lw_at lw_m3 113 rfl) rfl
theorem q726 : (Jvm.Cond.laysFinal "RoseProverbs$Proverb" "RoseProverbs$Proverb" "last" "I") ∈ lw_all := lw_g (lw_at lw_m3 114 rfl) rfl
theorem q727 : (Jvm.Cond.soleField "RoseProverbs$Proverb" "last") ∈ lw_all := lw_g (lw_at lw_m3 115 rfl) rfl
theorem q728 : (Jvm.Cond.laysFinal "RoseProverbs$Proverb" "RoseProverbs$Proverb" "weather" "I") ∈ lw_all := lw_g (lw_at lw_m3 116 rfl) rfl
theorem q729 : (Jvm.Cond.soleField "RoseProverbs$Proverb" "weather") ∈ lw_all := lw_g (lw_at lw_m3 117 rfl) rfl
theorem q730 : (Jvm.Cond.laysFinal "RoseProverbs$Proverb" "RoseProverbs$Proverb" "start" "I") ∈ lw_all := lw_g (lw_at lw_m3 118 rfl) rfl
theorem q731 : (Jvm.Cond.soleField "RoseProverbs$Proverb" "start") ∈ lw_all := lw_g (lw_at lw_m3 119 rfl) rfl
theorem q732 : (Jvm.Cond.lays "RoseProverbs$Proverb" "RoseProverbs$Proverb" "weight" "I") ∈ lw_all := lw_g (lw_at lw_m3 120 rfl) rfl
theorem q733 : (Jvm.Cond.soleField "RoseProverbs$Proverb" "weight") ∈ lw_all := lw_g (lw_at lw_m3 121 rfl) rfl
theorem q734 : (Jvm.Cond.lays "RoseProverbs$Proverb" "RoseProverbs$Proverb" "right" "I") ∈ lw_all := lw_g (lw_at lw_m3 122 rfl) rfl
theorem q735 : (Jvm.Cond.soleField "RoseProverbs$Proverb" "right") ∈ lw_all := lw_g (lw_at lw_m3 123 rfl) rfl
theorem q736 : (Jvm.Cond.lays "RoseProverbs$Proverb" "RoseProverbs$Proverb" "wrong" "I") ∈ lw_all := lw_g (lw_at lw_m3 124 rfl) rfl
theorem q737 : (Jvm.Cond.soleField "RoseProverbs$Proverb" "wrong") ∈ lw_all := lw_g (lw_at lw_m3 125 rfl) rfl
theorem q738 : (Jvm.Cond.lays "RoseProverbs$Proverb" "RoseProverbs$Proverb" "forgotten" "Z") ∈ lw_all := lw_g (lw_at lw_m3 126 rfl) rfl
theorem q739 : (Jvm.Cond.soleField "RoseProverbs$Proverb" "forgotten") ∈ lw_all := lw_g (lw_at lw_m3 127 rfl) rfl
theorem q740 : (Jvm.Cond.superclass "RoseProverbs$Proverb" "java/lang/Object") ∈ lw_all := lw_g (lw_at lw_m3 128 rfl) rfl
theorem q778 : (Jvm.Cond.selects "RoseProverbs$Proverb" ({ cls := "java/lang/Object", name := "getClass", desc := "()Ljava/lang/Class;" } : Jvm.MethodName) ({ cls := "java/lang/Object", name := "getClass", desc := "()Ljava/lang/Class;" } : Jvm.MethodName)) ∈ lw_all := lw_g (lw_at lw_m3 166 rfl) rfl
theorem q824 : (Jvm.Cond.instanceMethod ({ cls := "RoseProverbs$Proverb", name := "saying", desc := "()I" } : Jvm.MethodName)) ∈ lw_all := lw_g (lw_at lw_m3 212 rfl) rfl
theorem q825 : (Jvm.Cond.selects "RoseProverbs$Proverb" ({ cls := "RoseProverbs$Proverb", name := "saying", desc := "()I" } : Jvm.MethodName) ({ cls := "RoseProverbs$Proverb", name := "saying", desc := "()I" } : Jvm.MethodName)) ∈ lw_all := lw_g (lw_at lw_m3 213 rfl) rfl
theorem q826 : (Jvm.Cond.code ({ cls := "RoseProverbs$Proverb", name := "saying", desc := "()I" } : Jvm.MethodName) prog_6_method_5_code (1 : Nat) (Option.some Jvm.ClassFile.FieldType.int)) ∈ lw_all := lw_g (lw_at lw_m3 214 rfl) rfl
theorem q1169 : (Jvm.Cond.instanceMethod ({ cls := "RoseProverbs$Proverb", name := "<init>", desc := "(LRoseProverbs$Proverb;)V" } : Jvm.MethodName)) ∈ lw_all := lw_g (lw_at lw_m5 77 rfl) rfl
theorem q1170 : (Jvm.Cond.code ({ cls := "RoseProverbs$Proverb", name := "<init>", desc := "(LRoseProverbs$Proverb;)V" } : Jvm.MethodName) prog_6_method_2_code (2 : Nat) (Option.none : Option Jvm.ClassFile.FieldType)) ∈ lw_all := lw_g (lw_at lw_m5 78 rfl) rfl
theorem q1171 : (Jvm.Cond.methodLink "RoseProverbs$Proverb" (36 : Nat) ({ cls := "RoseProverbs$Proverb", name := "takes", desc := "(LRoseProverbs$Proverb;)V" } : Jvm.MethodName)) ∈ lw_all := lw_g (lw_at lw_m5 79 rfl) rfl
theorem q1172 : (Jvm.Cond.instanceMethod ({ cls := "RoseProverbs$Proverb", name := "takes", desc := "(LRoseProverbs$Proverb;)V" } : Jvm.MethodName)) ∈ lw_all := lw_g (lw_at lw_m5 80 rfl) rfl
theorem q1173 : (Jvm.Cond.selects "RoseProverbs$Proverb" ({ cls := "RoseProverbs$Proverb", name := "takes", desc := "(LRoseProverbs$Proverb;)V" } : Jvm.MethodName) ({ cls := "RoseProverbs$Proverb", name := "takes", desc := "(LRoseProverbs$Proverb;)V" } : Jvm.MethodName)) ∈ lw_all := lw_g (lw_at lw_m5 81 rfl) rfl
theorem q1174 : (Jvm.Cond.code ({ cls := "RoseProverbs$Proverb", name := "takes", desc := "(LRoseProverbs$Proverb;)V" } : Jvm.MethodName) prog_6_method_3_code (2 : Nat) (Option.none : Option Jvm.ClassFile.FieldType)) ∈ lw_all := lw_g (lw_at lw_m5 82 rfl) rfl
theorem q1516 : (Jvm.Cond.static ({ cls := "RoseProverbs$Proverb", name := "saying", desc := "([I)I" } : Jvm.MethodName)) ∈ lw_all := lw_g (lw_at lw_m6 184 rfl) rfl
theorem q1517 : (Jvm.Cond.code ({ cls := "RoseProverbs$Proverb", name := "saying", desc := "([I)I" } : Jvm.MethodName) prog_6_method_4_code (1 : Nat) (Option.some Jvm.ClassFile.FieldType.int)) ∈ lw_all := lw_g (lw_at lw_m6 185 rfl) rfl
theorem q1903 : (Jvm.Cond.instanceMethod ({ cls := "RoseProverbs$Proverb", name := "speaks", desc := "(II)Z" } : Jvm.MethodName)) ∈ lw_all := lw_g (lw_at lw_m8 91 rfl) rfl
theorem q1904 : (Jvm.Cond.selects "RoseProverbs$Proverb" ({ cls := "RoseProverbs$Proverb", name := "speaks", desc := "(II)Z" } : Jvm.MethodName) ({ cls := "RoseProverbs$Proverb", name := "speaks", desc := "(II)Z" } : Jvm.MethodName)) ∈ lw_all := lw_g (lw_at lw_m8 92 rfl) rfl
theorem q1905 : (Jvm.Cond.code ({ cls := "RoseProverbs$Proverb", name := "speaks", desc := "(II)Z" } : Jvm.MethodName) prog_6_method_9_code (3 : Nat) (Option.some Jvm.ClassFile.FieldType.boolean)) ∈ lw_all := lw_g (lw_at lw_m8 93 rfl) rfl
theorem q1906 : (Jvm.Cond.methodLink "RoseProverbs$Proverb" (67 : Nat) ({ cls := "RoseProverbs$Proverb", name := "isAt", desc := "(II)Z" } : Jvm.MethodName)) ∈ lw_all := lw_g (lw_at lw_m8 94 rfl) rfl
theorem q1907 : (Jvm.Cond.instanceMethod ({ cls := "RoseProverbs$Proverb", name := "isAt", desc := "(II)Z" } : Jvm.MethodName)) ∈ lw_all := lw_g (lw_at lw_m8 95 rfl) rfl
theorem q1908 : (Jvm.Cond.selects "RoseProverbs$Proverb" ({ cls := "RoseProverbs$Proverb", name := "isAt", desc := "(II)Z" } : Jvm.MethodName) ({ cls := "RoseProverbs$Proverb", name := "isAt", desc := "(II)Z" } : Jvm.MethodName)) ∈ lw_all := lw_g (lw_at lw_m8 96 rfl) rfl
theorem q1909 : (Jvm.Cond.code ({ cls := "RoseProverbs$Proverb", name := "isAt", desc := "(II)Z" } : Jvm.MethodName) prog_6_method_8_code (3 : Nat) (Option.some Jvm.ClassFile.FieldType.boolean)) ∈ lw_all := lw_g (lw_at lw_m8 97 rfl) rfl
theorem q1910 : (Jvm.Cond.fieldLink "RoseProverbs$Proverb" (50 : Nat) "RoseProverbs$Proverb" "ROSE" "LRoseProverbs$Round;") ∈ lw_all := lw_g (lw_at lw_m8 98 rfl) rfl
theorem q1911 : (Jvm.Cond.laysStatic "RoseProverbs$Proverb" "ROSE" "LRoseProverbs$Round;") ∈ lw_tbl := lw_at lw_m8 99 rfl
theorem q1936 : (Jvm.Cond.fieldLink "RoseProverbs$Proverb" (60 : Nat) "RoseProverbs$Proverb" "SEASONS" "LRoseProverbs$Round;") ∈ lw_all := lw_g (lw_at lw_m8 124 rfl) rfl
theorem q1937 : (Jvm.Cond.laysStatic "RoseProverbs$Proverb" "SEASONS" "LRoseProverbs$Round;") ∈ lw_tbl := lw_at lw_m8 125 rfl
theorem q1963 : (Jvm.Cond.instanceMethod ({ cls := "RoseProverbs$Proverb", name := "learns", desc := "(ZII)V" } : Jvm.MethodName)) ∈ lw_all := lw_g (lw_at lw_m8 151 rfl) rfl
theorem q1964 : (Jvm.Cond.selects "RoseProverbs$Proverb" ({ cls := "RoseProverbs$Proverb", name := "learns", desc := "(ZII)V" } : Jvm.MethodName) ({ cls := "RoseProverbs$Proverb", name := "learns", desc := "(ZII)V" } : Jvm.MethodName)) ∈ lw_all := lw_g (lw_at lw_m8 152 rfl) rfl
theorem q1965 : (Jvm.Cond.code ({ cls := "RoseProverbs$Proverb", name := "learns", desc := "(ZII)V" } : Jvm.MethodName) prog_6_method_12_code (4 : Nat) (Option.none : Option Jvm.ClassFile.FieldType)) ∈ lw_all := lw_g (lw_at lw_m8 153 rfl) rfl
theorem q1966 : (Jvm.Cond.methodLink "RoseProverbs$Proverb" (75 : Nat) ({ cls := "java/lang/Math", name := "min", desc := "(II)I" } : Jvm.MethodName)) ∈ lw_all := lw_g (lw_at lw_m8 154 rfl) rfl
theorem q1967 : (Jvm.Cond.methodLink "RoseProverbs$Proverb" (80 : Nat) ({ cls := "java/lang/Math", name := "max", desc := "(II)I" } : Jvm.MethodName)) ∈ lw_all := lw_g (lw_at lw_m8 155 rfl) rfl
theorem q2523 : (Jvm.Cond.instanceMethod ({ cls := "RoseProverbs$Proverb", name := "clashes", desc := "(LRoseProverbs$Proverb;)Z" } : Jvm.MethodName)) ∈ lw_all := lw_g (lw_at lw_m10 231 rfl) rfl
theorem q2524 : (Jvm.Cond.selects "RoseProverbs$Proverb" ({ cls := "RoseProverbs$Proverb", name := "clashes", desc := "(LRoseProverbs$Proverb;)Z" } : Jvm.MethodName) ({ cls := "RoseProverbs$Proverb", name := "clashes", desc := "(LRoseProverbs$Proverb;)Z" } : Jvm.MethodName)) ∈ lw_all := lw_g (lw_at lw_m10 232 rfl) rfl
theorem q2525 : (Jvm.Cond.code ({ cls := "RoseProverbs$Proverb", name := "clashes", desc := "(LRoseProverbs$Proverb;)Z" } : Jvm.MethodName) prog_6_method_11_code (2 : Nat) (Option.some Jvm.ClassFile.FieldType.boolean)) ∈ lw_all := lw_g (lw_at lw_m10 233 rfl) rfl
theorem q2526 : (Jvm.Cond.methodLink "RoseProverbs$Proverb" (71 : Nat) ({ cls := "RoseProverbs$Proverb", name := "meets", desc := "(LRoseProverbs$Proverb;)Z" } : Jvm.MethodName)) ∈ lw_all := lw_g (lw_at lw_m10 234 rfl) rfl
theorem q2527 : (Jvm.Cond.instanceMethod ({ cls := "RoseProverbs$Proverb", name := "meets", desc := "(LRoseProverbs$Proverb;)Z" } : Jvm.MethodName)) ∈ lw_all := lw_g (lw_at lw_m10 235 rfl) rfl
theorem q2528 : (Jvm.Cond.selects "RoseProverbs$Proverb" ({ cls := "RoseProverbs$Proverb", name := "meets", desc := "(LRoseProverbs$Proverb;)Z" } : Jvm.MethodName) ({ cls := "RoseProverbs$Proverb", name := "meets", desc := "(LRoseProverbs$Proverb;)Z" } : Jvm.MethodName)) ∈ lw_all := lw_g (lw_at lw_m10 236 rfl) rfl
theorem q2529 : (Jvm.Cond.code ({ cls := "RoseProverbs$Proverb", name := "meets", desc := "(LRoseProverbs$Proverb;)Z" } : Jvm.MethodName) prog_6_method_10_code (4 : Nat) (Option.some Jvm.ClassFile.FieldType.boolean)) ∈ lw_all := lw_g (lw_at lw_m10 237 rfl) rfl
theorem q2597 : (Jvm.Cond.instanceMethod ({ cls := "RoseProverbs$Proverb", name := "points", desc := "()I" } : Jvm.MethodName)) ∈ lw_all := lw_g (lw_at lw_m11 65 rfl) rfl
theorem q2598 : (Jvm.Cond.selects "RoseProverbs$Proverb" ({ cls := "RoseProverbs$Proverb", name := "points", desc := "()I" } : Jvm.MethodName) ({ cls := "RoseProverbs$Proverb", name := "points", desc := "()I" } : Jvm.MethodName)) ∈ lw_all := lw_g (lw_at lw_m11 66 rfl) rfl
theorem q2599 : (Jvm.Cond.code ({ cls := "RoseProverbs$Proverb", name := "points", desc := "()I" } : Jvm.MethodName) prog_6_method_6_code (1 : Nat) (Option.some Jvm.ClassFile.FieldType.int)) ∈ lw_all := lw_g (lw_at lw_m11 67 rfl) rfl
theorem q2601 : (Jvm.Cond.instanceMethod ({ cls := "RoseProverbs$Proverb", name := "months", desc := "()I" } : Jvm.MethodName)) ∈ lw_all := lw_g (lw_at lw_m11 69 rfl) rfl
theorem q2602 : (Jvm.Cond.selects "RoseProverbs$Proverb" ({ cls := "RoseProverbs$Proverb", name := "months", desc := "()I" } : Jvm.MethodName) ({ cls := "RoseProverbs$Proverb", name := "months", desc := "()I" } : Jvm.MethodName)) ∈ lw_all := lw_g (lw_at lw_m11 70 rfl) rfl
theorem q2603 : (Jvm.Cond.code ({ cls := "RoseProverbs$Proverb", name := "months", desc := "()I" } : Jvm.MethodName) prog_6_method_7_code (1 : Nat) (Option.some Jvm.ClassFile.FieldType.int)) ∈ lw_all := lw_g (lw_at lw_m11 71 rfl) rfl
theorem q3597 : (Jvm.Cond.castable "RoseProverbs$Proverb" "java/lang/Object") ∈ lw_tbl := lw_at lw_m15 105 rfl
theorem in_X3 : ∀ w ∈ wsX30, w ∈ lw_all := lw_in wsX30 [718, 720, 722, 724, 726, 728, 730, 732, 734, 736, 738] (by decide +kernel) (by decide +kernel)
/-! RoseProverbs$Parser -/
set_option maxRecDepth 100000
def RX5 : String := "RoseProverbs$Parser"
abbrev cX5_init : ByteArray := prog_5_method_1_code
def yX5_init : MethodName := ⟨RX5, "<init>", "(LRoseProverbs;)V"⟩
def dkwX5_init_0 : List UInt8 := [42, 43, 181, 0, 3, 42, 183, 0, 9, 42, 18, 15, 181, 0, 17, 42, 182, 0, 21, 177]
abbrev dktX5_init_0 : List UInt8 := dkwX5_init_0 ++ []
theorem dksX5_init_0 : cX5_init.data.toList.drop 0 = dktX5_init_0 := by decide +kernel
theorem dX5_init_0 : decode cX5_init 0 = .ok (.aload_n 0, 1) := dk_42 (dk_at dksX5_init_0 0 rfl rfl)
theorem dX5_init_1 : decode cX5_init 1 = .ok (.aload_n 1, 1) := dk_43 (dk_at dksX5_init_0 1 rfl rfl)
theorem dX5_init_2 : decode cX5_init 2 = .ok (.putfield 3, 3) := dk_181 0 3 (dk_at dksX5_init_0 2 rfl rfl)
theorem dX5_init_5 : decode cX5_init 5 = .ok (.aload_n 0, 1) := dk_42 (dk_at dksX5_init_0 5 rfl rfl)
theorem dX5_init_6 : decode cX5_init 6 = .ok (.invokespecial 9, 3) := dk_183 0 9 (dk_at dksX5_init_0 6 rfl rfl)
theorem dX5_init_9 : decode cX5_init 9 = .ok (.aload_n 0, 1) := dk_42 (dk_at dksX5_init_0 9 rfl rfl)
theorem dX5_init_10 : decode cX5_init 10 = .ok (.ldc 15, 2) := dk_18 15 (dk_at dksX5_init_0 10 rfl rfl)
theorem dX5_init_12 : decode cX5_init 12 = .ok (.putfield 17, 3) := dk_181 0 17 (dk_at dksX5_init_0 12 rfl rfl)
theorem dX5_init_15 : decode cX5_init 15 = .ok (.aload_n 0, 1) := dk_42 (dk_at dksX5_init_0 15 rfl rfl)
theorem dX5_init_16 : decode cX5_init 16 = .ok (.invokevirtual 21, 3) := dk_182 0 21 (dk_at dksX5_init_0 16 rfl rfl)
theorem dX5_init_19 : decode cX5_init 19 = .ok (.return_, 1) := dk_177 (dk_at dksX5_init_0 19 rfl rfl)
abbrev cX5_advance : ByteArray := prog_5_method_5_code
def yX5_advance : MethodName := ⟨RX5, "advance", "()V"⟩
def dkwX5_advance_11 : List UInt8 := [167, 0, 4, 7, 181, 0, 57, 42, 89, 180, 0, 51, 4, 96, 181, 0, 51, 177]
abbrev dktX5_advance_11 : List UInt8 := dkwX5_advance_11 ++ []
def dkwX5_advance_10 : List UInt8 := [182, 0, 68, 184, 0, 76, 167, 0, 4, 3, 181, 0, 82, 167, 0, 28, 42, 27, 16, 59, 160, 0, 7, 5]
abbrev dktX5_advance_10 : List UInt8 := dkwX5_advance_10 ++ dktX5_advance_11
def dkwX5_advance_9 : List UInt8 := [7, 181, 0, 57, 42, 42, 180, 0, 57, 4, 160, 0, 21, 42, 42, 180, 0, 54, 42, 180, 0, 51]
abbrev dktX5_advance_9 : List UInt8 := dkwX5_advance_9 ++ dktX5_advance_10
def dkwX5_advance_8 : List UInt8 := [182, 0, 64, 181, 0, 51, 42, 42, 180, 0, 51, 42, 180, 0, 54, 100, 6, 163, 0, 7, 4, 167, 0, 4]
abbrev dktX5_advance_8 : List UInt8 := dkwX5_advance_8 ++ dktX5_advance_9
def dkwX5_advance_7 : List UInt8 := [20, 0, 72, 20, 0, 74, 184, 0, 36, 153, 0, 75, 42, 42, 42, 180, 0, 54, 16, 48, 16, 57]
abbrev dktX5_advance_7 : List UInt8 := dkwX5_advance_7 ++ dktX5_advance_8
def dkwX5_advance_6 : List UInt8 := [180, 0, 54, 42, 180, 0, 51, 182, 0, 68, 167, 0, 5, 18, 15, 181, 0, 17, 167, 0, 114, 27, 133]
abbrev dktX5_advance_6 : List UInt8 := dkwX5_advance_6 ++ dktX5_advance_7
def dkwX5_advance_5 : List UInt8 := [16, 8, 163, 0, 7, 3, 167, 0, 4, 7, 181, 0, 57, 42, 42, 180, 0, 57, 154, 0, 18, 42, 42]
abbrev dktX5_advance_5 : List UInt8 := dkwX5_advance_5 ++ dktX5_advance_6
def dkwX5_advance_4 : List UInt8 := [180, 0, 54, 16, 97, 16, 122, 182, 0, 64, 181, 0, 51, 42, 42, 180, 0, 51, 42, 180, 0, 54, 100]
abbrev dktX5_advance_4 : List UInt8 := dkwX5_advance_4 ++ dktX5_advance_5
def dkwX5_advance_3 : List UInt8 := [181, 0, 57, 167, 0, 198, 27, 133, 20, 0, 60, 20, 0, 62, 184, 0, 36, 153, 0, 73, 42, 42, 42]
abbrev dktX5_advance_3 : List UInt8 := dkwX5_advance_3 ++ dktX5_advance_4
def dkwX5_advance_2 : List UInt8 := [42, 18, 15, 181, 0, 17, 42, 42, 180, 0, 54, 182, 0, 32, 60, 27, 2, 160, 0, 11, 42, 6]
abbrev dktX5_advance_2 : List UInt8 := dkwX5_advance_2 ++ dktX5_advance_3
def dkwX5_advance_1 : List UInt8 := [160, 0, 16, 42, 89, 180, 0, 51, 4, 96, 181, 0, 51, 167, 255, 220, 42, 42, 180, 0, 51, 181, 0, 54]
abbrev dktX5_advance_1 : List UInt8 := dkwX5_advance_1 ++ dktX5_advance_2
def dkwX5_advance_0 : List UInt8 := [42, 42, 180, 0, 51, 182, 0, 32, 16, 32, 159, 0, 16, 42, 42, 180, 0, 51, 182, 0, 32, 16, 10]
abbrev dktX5_advance_0 : List UInt8 := dkwX5_advance_0 ++ dktX5_advance_1
theorem dksX5_advance_0 : cX5_advance.data.toList.drop 0 = dktX5_advance_0 := by decide +kernel
theorem dksX5_advance_1 : cX5_advance.data.toList.drop 23 = dktX5_advance_1 := dk_seg dksX5_advance_0 23 rfl rfl
theorem dksX5_advance_2 : cX5_advance.data.toList.drop 47 = dktX5_advance_2 := dk_seg dksX5_advance_1 24 rfl rfl
theorem dksX5_advance_3 : cX5_advance.data.toList.drop 69 = dktX5_advance_3 := dk_seg dksX5_advance_2 22 rfl rfl
theorem dksX5_advance_4 : cX5_advance.data.toList.drop 92 = dktX5_advance_4 := dk_seg dksX5_advance_3 23 rfl rfl
theorem dksX5_advance_5 : cX5_advance.data.toList.drop 115 = dktX5_advance_5 := dk_seg dksX5_advance_4 23 rfl rfl
theorem dksX5_advance_6 : cX5_advance.data.toList.drop 138 = dktX5_advance_6 := dk_seg dksX5_advance_5 23 rfl rfl
theorem dksX5_advance_7 : cX5_advance.data.toList.drop 161 = dktX5_advance_7 := dk_seg dksX5_advance_6 23 rfl rfl
theorem dksX5_advance_8 : cX5_advance.data.toList.drop 183 = dktX5_advance_8 := dk_seg dksX5_advance_7 22 rfl rfl
theorem dksX5_advance_9 : cX5_advance.data.toList.drop 207 = dktX5_advance_9 := dk_seg dksX5_advance_8 24 rfl rfl
theorem dksX5_advance_10 : cX5_advance.data.toList.drop 229 = dktX5_advance_10 := dk_seg dksX5_advance_9 22 rfl rfl
theorem dksX5_advance_11 : cX5_advance.data.toList.drop 253 = dktX5_advance_11 := dk_seg dksX5_advance_10 24 rfl rfl
theorem dX5_advance_0 : decode cX5_advance 0 = .ok (.aload_n 0, 1) := dk_42 (dk_at dksX5_advance_0 0 rfl rfl)
theorem dX5_advance_1 : decode cX5_advance 1 = .ok (.aload_n 0, 1) := dk_42 (dk_at dksX5_advance_0 1 rfl rfl)
theorem dX5_advance_2 : decode cX5_advance 2 = .ok (.getfield 51, 3) := dk_180 0 51 (dk_at dksX5_advance_0 2 rfl rfl)
theorem dX5_advance_5 : decode cX5_advance 5 = .ok (.invokevirtual 32, 3) := dk_182 0 32 (dk_at dksX5_advance_0 5 rfl rfl)
theorem dX5_advance_8 : decode cX5_advance 8 = .ok (.bipush 32, 2) := dk_16 32 (dk_at dksX5_advance_0 8 rfl rfl)
theorem dX5_advance_10 : decode cX5_advance 10 = .ok (.if_icmp .eq 16, 3) := dk_159 0 16 (dk_at dksX5_advance_0 10 rfl rfl)
theorem dX5_advance_13 : decode cX5_advance 13 = .ok (.aload_n 0, 1) := dk_42 (dk_at dksX5_advance_0 13 rfl rfl)
theorem dX5_advance_14 : decode cX5_advance 14 = .ok (.aload_n 0, 1) := dk_42 (dk_at dksX5_advance_0 14 rfl rfl)
theorem dX5_advance_15 : decode cX5_advance 15 = .ok (.getfield 51, 3) := dk_180 0 51 (dk_at dksX5_advance_0 15 rfl rfl)
theorem dX5_advance_18 : decode cX5_advance 18 = .ok (.invokevirtual 32, 3) := dk_182 0 32 (dk_at dksX5_advance_0 18 rfl rfl)
theorem dX5_advance_21 : decode cX5_advance 21 = .ok (.bipush 10, 2) := dk_16 10 (dk_at dksX5_advance_0 21 rfl rfl)
theorem dX5_advance_23 : decode cX5_advance 23 = .ok (.if_icmp .ne 16, 3) := dk_160 0 16 (dk_at dksX5_advance_1 0 rfl rfl)
theorem dX5_advance_26 : decode cX5_advance 26 = .ok (.aload_n 0, 1) := dk_42 (dk_at dksX5_advance_1 3 rfl rfl)
theorem dX5_advance_27 : decode cX5_advance 27 = .ok (.dup, 1) := dk_89 (dk_at dksX5_advance_1 4 rfl rfl)
theorem dX5_advance_28 : decode cX5_advance 28 = .ok (.getfield 51, 3) := dk_180 0 51 (dk_at dksX5_advance_1 5 rfl rfl)
theorem dX5_advance_31 : decode cX5_advance 31 = .ok (.iconst 1, 1) := dk_4 (dk_at dksX5_advance_1 8 rfl rfl)
theorem dX5_advance_32 : decode cX5_advance 32 = .ok (.iadd, 1) := dk_96 (dk_at dksX5_advance_1 9 rfl rfl)
theorem dX5_advance_33 : decode cX5_advance 33 = .ok (.putfield 51, 3) := dk_181 0 51 (dk_at dksX5_advance_1 10 rfl rfl)
theorem dX5_advance_36 : decode cX5_advance 36 = .ok (.goto (-36), 3) := dk_167 255 220 (dk_at dksX5_advance_1 13 rfl rfl)
theorem dX5_advance_39 : decode cX5_advance 39 = .ok (.aload_n 0, 1) := dk_42 (dk_at dksX5_advance_1 16 rfl rfl)
theorem dX5_advance_40 : decode cX5_advance 40 = .ok (.aload_n 0, 1) := dk_42 (dk_at dksX5_advance_1 17 rfl rfl)
theorem dX5_advance_41 : decode cX5_advance 41 = .ok (.getfield 51, 3) := dk_180 0 51 (dk_at dksX5_advance_1 18 rfl rfl)
theorem dX5_advance_44 : decode cX5_advance 44 = .ok (.putfield 54, 3) := dk_181 0 54 (dk_at dksX5_advance_1 21 rfl rfl)
theorem dX5_advance_47 : decode cX5_advance 47 = .ok (.aload_n 0, 1) := dk_42 (dk_at dksX5_advance_2 0 rfl rfl)
theorem dX5_advance_48 : decode cX5_advance 48 = .ok (.ldc 15, 2) := dk_18 15 (dk_at dksX5_advance_2 1 rfl rfl)
theorem dX5_advance_50 : decode cX5_advance 50 = .ok (.putfield 17, 3) := dk_181 0 17 (dk_at dksX5_advance_2 3 rfl rfl)
theorem dX5_advance_53 : decode cX5_advance 53 = .ok (.aload_n 0, 1) := dk_42 (dk_at dksX5_advance_2 6 rfl rfl)
theorem dX5_advance_54 : decode cX5_advance 54 = .ok (.aload_n 0, 1) := dk_42 (dk_at dksX5_advance_2 7 rfl rfl)
theorem dX5_advance_55 : decode cX5_advance 55 = .ok (.getfield 54, 3) := dk_180 0 54 (dk_at dksX5_advance_2 8 rfl rfl)
theorem dX5_advance_58 : decode cX5_advance 58 = .ok (.invokevirtual 32, 3) := dk_182 0 32 (dk_at dksX5_advance_2 11 rfl rfl)
theorem dX5_advance_61 : decode cX5_advance 61 = .ok (.istore_n 1, 1) := dk_60 (dk_at dksX5_advance_2 14 rfl rfl)
theorem dX5_advance_62 : decode cX5_advance 62 = .ok (.iload_n 1, 1) := dk_27 (dk_at dksX5_advance_2 15 rfl rfl)
theorem dX5_advance_63 : decode cX5_advance 63 = .ok (.iconst (-1), 1) := dk_2 (dk_at dksX5_advance_2 16 rfl rfl)
theorem dX5_advance_64 : decode cX5_advance 64 = .ok (.if_icmp .ne 11, 3) := dk_160 0 11 (dk_at dksX5_advance_2 17 rfl rfl)
theorem dX5_advance_67 : decode cX5_advance 67 = .ok (.aload_n 0, 1) := dk_42 (dk_at dksX5_advance_2 20 rfl rfl)
theorem dX5_advance_68 : decode cX5_advance 68 = .ok (.iconst 3, 1) := dk_6 (dk_at dksX5_advance_2 21 rfl rfl)
theorem dX5_advance_69 : decode cX5_advance 69 = .ok (.putfield 57, 3) := dk_181 0 57 (dk_at dksX5_advance_3 0 rfl rfl)
theorem dX5_advance_72 : decode cX5_advance 72 = .ok (.goto 198, 3) := dk_167 0 198 (dk_at dksX5_advance_3 3 rfl rfl)
theorem dX5_advance_75 : decode cX5_advance 75 = .ok (.iload_n 1, 1) := dk_27 (dk_at dksX5_advance_3 6 rfl rfl)
theorem dX5_advance_76 : decode cX5_advance 76 = .ok (.i2l, 1) := dk_133 (dk_at dksX5_advance_3 7 rfl rfl)
theorem dX5_advance_77 : decode cX5_advance 77 = .ok (.ldc2_w 60, 3) := dk_20 0 60 (dk_at dksX5_advance_3 8 rfl rfl)
theorem dX5_advance_80 : decode cX5_advance 80 = .ok (.ldc2_w 62, 3) := dk_20 0 62 (dk_at dksX5_advance_3 11 rfl rfl)
theorem dX5_advance_83 : decode cX5_advance 83 = .ok (.invokestatic 36, 3) := dk_184 0 36 (dk_at dksX5_advance_3 14 rfl rfl)
theorem dX5_advance_86 : decode cX5_advance 86 = .ok (.ifCond .eq 73, 3) := dk_153 0 73 (dk_at dksX5_advance_3 17 rfl rfl)
theorem dX5_advance_89 : decode cX5_advance 89 = .ok (.aload_n 0, 1) := dk_42 (dk_at dksX5_advance_3 20 rfl rfl)
theorem dX5_advance_90 : decode cX5_advance 90 = .ok (.aload_n 0, 1) := dk_42 (dk_at dksX5_advance_3 21 rfl rfl)
theorem dX5_advance_91 : decode cX5_advance 91 = .ok (.aload_n 0, 1) := dk_42 (dk_at dksX5_advance_3 22 rfl rfl)
theorem dX5_advance_92 : decode cX5_advance 92 = .ok (.getfield 54, 3) := dk_180 0 54 (dk_at dksX5_advance_4 0 rfl rfl)
theorem dX5_advance_95 : decode cX5_advance 95 = .ok (.bipush 97, 2) := dk_16 97 (dk_at dksX5_advance_4 3 rfl rfl)
theorem dX5_advance_97 : decode cX5_advance 97 = .ok (.bipush 122, 2) := dk_16 122 (dk_at dksX5_advance_4 5 rfl rfl)
theorem dX5_advance_99 : decode cX5_advance 99 = .ok (.invokevirtual 64, 3) := dk_182 0 64 (dk_at dksX5_advance_4 7 rfl rfl)
theorem dX5_advance_102 : decode cX5_advance 102 = .ok (.putfield 51, 3) := dk_181 0 51 (dk_at dksX5_advance_4 10 rfl rfl)
theorem dX5_advance_105 : decode cX5_advance 105 = .ok (.aload_n 0, 1) := dk_42 (dk_at dksX5_advance_4 13 rfl rfl)
theorem dX5_advance_106 : decode cX5_advance 106 = .ok (.aload_n 0, 1) := dk_42 (dk_at dksX5_advance_4 14 rfl rfl)
theorem dX5_advance_107 : decode cX5_advance 107 = .ok (.getfield 51, 3) := dk_180 0 51 (dk_at dksX5_advance_4 15 rfl rfl)
theorem dX5_advance_110 : decode cX5_advance 110 = .ok (.aload_n 0, 1) := dk_42 (dk_at dksX5_advance_4 18 rfl rfl)
theorem dX5_advance_111 : decode cX5_advance 111 = .ok (.getfield 54, 3) := dk_180 0 54 (dk_at dksX5_advance_4 19 rfl rfl)
theorem dX5_advance_114 : decode cX5_advance 114 = .ok (.isub, 1) := dk_100 (dk_at dksX5_advance_4 22 rfl rfl)
theorem dX5_advance_115 : decode cX5_advance 115 = .ok (.bipush 8, 2) := dk_16 8 (dk_at dksX5_advance_5 0 rfl rfl)
theorem dX5_advance_117 : decode cX5_advance 117 = .ok (.if_icmp .gt 7, 3) := dk_163 0 7 (dk_at dksX5_advance_5 2 rfl rfl)
theorem dX5_advance_120 : decode cX5_advance 120 = .ok (.iconst 0, 1) := dk_3 (dk_at dksX5_advance_5 5 rfl rfl)
theorem dX5_advance_121 : decode cX5_advance 121 = .ok (.goto 4, 3) := dk_167 0 4 (dk_at dksX5_advance_5 6 rfl rfl)
theorem dX5_advance_124 : decode cX5_advance 124 = .ok (.iconst 4, 1) := dk_7 (dk_at dksX5_advance_5 9 rfl rfl)
theorem dX5_advance_125 : decode cX5_advance 125 = .ok (.putfield 57, 3) := dk_181 0 57 (dk_at dksX5_advance_5 10 rfl rfl)
theorem dX5_advance_128 : decode cX5_advance 128 = .ok (.aload_n 0, 1) := dk_42 (dk_at dksX5_advance_5 13 rfl rfl)
theorem dX5_advance_129 : decode cX5_advance 129 = .ok (.aload_n 0, 1) := dk_42 (dk_at dksX5_advance_5 14 rfl rfl)
theorem dX5_advance_130 : decode cX5_advance 130 = .ok (.getfield 57, 3) := dk_180 0 57 (dk_at dksX5_advance_5 15 rfl rfl)
theorem dX5_advance_133 : decode cX5_advance 133 = .ok (.ifCond .ne 18, 3) := dk_154 0 18 (dk_at dksX5_advance_5 18 rfl rfl)
theorem dX5_advance_136 : decode cX5_advance 136 = .ok (.aload_n 0, 1) := dk_42 (dk_at dksX5_advance_5 21 rfl rfl)
theorem dX5_advance_137 : decode cX5_advance 137 = .ok (.aload_n 0, 1) := dk_42 (dk_at dksX5_advance_5 22 rfl rfl)
theorem dX5_advance_138 : decode cX5_advance 138 = .ok (.getfield 54, 3) := dk_180 0 54 (dk_at dksX5_advance_6 0 rfl rfl)
theorem dX5_advance_141 : decode cX5_advance 141 = .ok (.aload_n 0, 1) := dk_42 (dk_at dksX5_advance_6 3 rfl rfl)
theorem dX5_advance_142 : decode cX5_advance 142 = .ok (.getfield 51, 3) := dk_180 0 51 (dk_at dksX5_advance_6 4 rfl rfl)
theorem dX5_advance_145 : decode cX5_advance 145 = .ok (.invokevirtual 68, 3) := dk_182 0 68 (dk_at dksX5_advance_6 7 rfl rfl)
theorem dX5_advance_148 : decode cX5_advance 148 = .ok (.goto 5, 3) := dk_167 0 5 (dk_at dksX5_advance_6 10 rfl rfl)
theorem dX5_advance_151 : decode cX5_advance 151 = .ok (.ldc 15, 2) := dk_18 15 (dk_at dksX5_advance_6 13 rfl rfl)
theorem dX5_advance_153 : decode cX5_advance 153 = .ok (.putfield 17, 3) := dk_181 0 17 (dk_at dksX5_advance_6 15 rfl rfl)
theorem dX5_advance_156 : decode cX5_advance 156 = .ok (.goto 114, 3) := dk_167 0 114 (dk_at dksX5_advance_6 18 rfl rfl)
theorem dX5_advance_159 : decode cX5_advance 159 = .ok (.iload_n 1, 1) := dk_27 (dk_at dksX5_advance_6 21 rfl rfl)
theorem dX5_advance_160 : decode cX5_advance 160 = .ok (.i2l, 1) := dk_133 (dk_at dksX5_advance_6 22 rfl rfl)
theorem dX5_advance_161 : decode cX5_advance 161 = .ok (.ldc2_w 72, 3) := dk_20 0 72 (dk_at dksX5_advance_7 0 rfl rfl)
theorem dX5_advance_164 : decode cX5_advance 164 = .ok (.ldc2_w 74, 3) := dk_20 0 74 (dk_at dksX5_advance_7 3 rfl rfl)
theorem dX5_advance_167 : decode cX5_advance 167 = .ok (.invokestatic 36, 3) := dk_184 0 36 (dk_at dksX5_advance_7 6 rfl rfl)
theorem dX5_advance_170 : decode cX5_advance 170 = .ok (.ifCond .eq 75, 3) := dk_153 0 75 (dk_at dksX5_advance_7 9 rfl rfl)
theorem dX5_advance_173 : decode cX5_advance 173 = .ok (.aload_n 0, 1) := dk_42 (dk_at dksX5_advance_7 12 rfl rfl)
theorem dX5_advance_174 : decode cX5_advance 174 = .ok (.aload_n 0, 1) := dk_42 (dk_at dksX5_advance_7 13 rfl rfl)
theorem dX5_advance_175 : decode cX5_advance 175 = .ok (.aload_n 0, 1) := dk_42 (dk_at dksX5_advance_7 14 rfl rfl)
theorem dX5_advance_176 : decode cX5_advance 176 = .ok (.getfield 54, 3) := dk_180 0 54 (dk_at dksX5_advance_7 15 rfl rfl)
theorem dX5_advance_179 : decode cX5_advance 179 = .ok (.bipush 48, 2) := dk_16 48 (dk_at dksX5_advance_7 18 rfl rfl)
theorem dX5_advance_181 : decode cX5_advance 181 = .ok (.bipush 57, 2) := dk_16 57 (dk_at dksX5_advance_7 20 rfl rfl)
theorem dX5_advance_183 : decode cX5_advance 183 = .ok (.invokevirtual 64, 3) := dk_182 0 64 (dk_at dksX5_advance_8 0 rfl rfl)
theorem dX5_advance_186 : decode cX5_advance 186 = .ok (.putfield 51, 3) := dk_181 0 51 (dk_at dksX5_advance_8 3 rfl rfl)
theorem dX5_advance_189 : decode cX5_advance 189 = .ok (.aload_n 0, 1) := dk_42 (dk_at dksX5_advance_8 6 rfl rfl)
theorem dX5_advance_190 : decode cX5_advance 190 = .ok (.aload_n 0, 1) := dk_42 (dk_at dksX5_advance_8 7 rfl rfl)
theorem dX5_advance_191 : decode cX5_advance 191 = .ok (.getfield 51, 3) := dk_180 0 51 (dk_at dksX5_advance_8 8 rfl rfl)
theorem dX5_advance_194 : decode cX5_advance 194 = .ok (.aload_n 0, 1) := dk_42 (dk_at dksX5_advance_8 11 rfl rfl)
theorem dX5_advance_195 : decode cX5_advance 195 = .ok (.getfield 54, 3) := dk_180 0 54 (dk_at dksX5_advance_8 12 rfl rfl)
theorem dX5_advance_198 : decode cX5_advance 198 = .ok (.isub, 1) := dk_100 (dk_at dksX5_advance_8 15 rfl rfl)
theorem dX5_advance_199 : decode cX5_advance 199 = .ok (.iconst 3, 1) := dk_6 (dk_at dksX5_advance_8 16 rfl rfl)
theorem dX5_advance_200 : decode cX5_advance 200 = .ok (.if_icmp .gt 7, 3) := dk_163 0 7 (dk_at dksX5_advance_8 17 rfl rfl)
theorem dX5_advance_203 : decode cX5_advance 203 = .ok (.iconst 1, 1) := dk_4 (dk_at dksX5_advance_8 20 rfl rfl)
theorem dX5_advance_204 : decode cX5_advance 204 = .ok (.goto 4, 3) := dk_167 0 4 (dk_at dksX5_advance_8 21 rfl rfl)
theorem dX5_advance_207 : decode cX5_advance 207 = .ok (.iconst 4, 1) := dk_7 (dk_at dksX5_advance_9 0 rfl rfl)
theorem dX5_advance_208 : decode cX5_advance 208 = .ok (.putfield 57, 3) := dk_181 0 57 (dk_at dksX5_advance_9 1 rfl rfl)
theorem dX5_advance_211 : decode cX5_advance 211 = .ok (.aload_n 0, 1) := dk_42 (dk_at dksX5_advance_9 4 rfl rfl)
theorem dX5_advance_212 : decode cX5_advance 212 = .ok (.aload_n 0, 1) := dk_42 (dk_at dksX5_advance_9 5 rfl rfl)
theorem dX5_advance_213 : decode cX5_advance 213 = .ok (.getfield 57, 3) := dk_180 0 57 (dk_at dksX5_advance_9 6 rfl rfl)
theorem dX5_advance_216 : decode cX5_advance 216 = .ok (.iconst 1, 1) := dk_4 (dk_at dksX5_advance_9 9 rfl rfl)
theorem dX5_advance_217 : decode cX5_advance 217 = .ok (.if_icmp .ne 21, 3) := dk_160 0 21 (dk_at dksX5_advance_9 10 rfl rfl)
theorem dX5_advance_220 : decode cX5_advance 220 = .ok (.aload_n 0, 1) := dk_42 (dk_at dksX5_advance_9 13 rfl rfl)
theorem dX5_advance_221 : decode cX5_advance 221 = .ok (.aload_n 0, 1) := dk_42 (dk_at dksX5_advance_9 14 rfl rfl)
theorem dX5_advance_222 : decode cX5_advance 222 = .ok (.getfield 54, 3) := dk_180 0 54 (dk_at dksX5_advance_9 15 rfl rfl)
theorem dX5_advance_225 : decode cX5_advance 225 = .ok (.aload_n 0, 1) := dk_42 (dk_at dksX5_advance_9 18 rfl rfl)
theorem dX5_advance_226 : decode cX5_advance 226 = .ok (.getfield 51, 3) := dk_180 0 51 (dk_at dksX5_advance_9 19 rfl rfl)
theorem dX5_advance_229 : decode cX5_advance 229 = .ok (.invokevirtual 68, 3) := dk_182 0 68 (dk_at dksX5_advance_10 0 rfl rfl)
theorem dX5_advance_232 : decode cX5_advance 232 = .ok (.invokestatic 76, 3) := dk_184 0 76 (dk_at dksX5_advance_10 3 rfl rfl)
theorem dX5_advance_235 : decode cX5_advance 235 = .ok (.goto 4, 3) := dk_167 0 4 (dk_at dksX5_advance_10 6 rfl rfl)
theorem dX5_advance_238 : decode cX5_advance 238 = .ok (.iconst 0, 1) := dk_3 (dk_at dksX5_advance_10 9 rfl rfl)
theorem dX5_advance_239 : decode cX5_advance 239 = .ok (.putfield 82, 3) := dk_181 0 82 (dk_at dksX5_advance_10 10 rfl rfl)
theorem dX5_advance_242 : decode cX5_advance 242 = .ok (.goto 28, 3) := dk_167 0 28 (dk_at dksX5_advance_10 13 rfl rfl)
theorem dX5_advance_245 : decode cX5_advance 245 = .ok (.aload_n 0, 1) := dk_42 (dk_at dksX5_advance_10 16 rfl rfl)
theorem dX5_advance_246 : decode cX5_advance 246 = .ok (.iload_n 1, 1) := dk_27 (dk_at dksX5_advance_10 17 rfl rfl)
theorem dX5_advance_247 : decode cX5_advance 247 = .ok (.bipush 59, 2) := dk_16 59 (dk_at dksX5_advance_10 18 rfl rfl)
theorem dX5_advance_249 : decode cX5_advance 249 = .ok (.if_icmp .ne 7, 3) := dk_160 0 7 (dk_at dksX5_advance_10 20 rfl rfl)
theorem dX5_advance_252 : decode cX5_advance 252 = .ok (.iconst 2, 1) := dk_5 (dk_at dksX5_advance_10 23 rfl rfl)
theorem dX5_advance_253 : decode cX5_advance 253 = .ok (.goto 4, 3) := dk_167 0 4 (dk_at dksX5_advance_11 0 rfl rfl)
theorem dX5_advance_256 : decode cX5_advance 256 = .ok (.iconst 4, 1) := dk_7 (dk_at dksX5_advance_11 3 rfl rfl)
theorem dX5_advance_257 : decode cX5_advance 257 = .ok (.putfield 57, 3) := dk_181 0 57 (dk_at dksX5_advance_11 4 rfl rfl)
theorem dX5_advance_260 : decode cX5_advance 260 = .ok (.aload_n 0, 1) := dk_42 (dk_at dksX5_advance_11 7 rfl rfl)
theorem dX5_advance_261 : decode cX5_advance 261 = .ok (.dup, 1) := dk_89 (dk_at dksX5_advance_11 8 rfl rfl)
theorem dX5_advance_262 : decode cX5_advance 262 = .ok (.getfield 51, 3) := dk_180 0 51 (dk_at dksX5_advance_11 9 rfl rfl)
theorem dX5_advance_265 : decode cX5_advance 265 = .ok (.iconst 1, 1) := dk_4 (dk_at dksX5_advance_11 12 rfl rfl)
theorem dX5_advance_266 : decode cX5_advance 266 = .ok (.iadd, 1) := dk_96 (dk_at dksX5_advance_11 13 rfl rfl)
theorem dX5_advance_267 : decode cX5_advance 267 = .ok (.putfield 51, 3) := dk_181 0 51 (dk_at dksX5_advance_11 14 rfl rfl)
theorem dX5_advance_270 : decode cX5_advance 270 = .ok (.return_, 1) := dk_177 (dk_at dksX5_advance_11 17 rfl rfl)
abbrev cX5_at : ByteArray := prog_5_method_2_code
def yX5_at : MethodName := ⟨RX5, "at", "(I)I"⟩
def dkwX5_at_1 : List UInt8 := [167, 0, 4, 2, 172]
abbrev dktX5_at_1 : List UInt8 := dkwX5_at_1 ++ []
def dkwX5_at_0 : List UInt8 := [27, 42, 180, 0, 3, 180, 0, 24, 162, 0, 19, 42, 180, 0, 3, 180, 0, 28, 27, 51, 17, 0, 255, 126]
abbrev dktX5_at_0 : List UInt8 := dkwX5_at_0 ++ dktX5_at_1
theorem dksX5_at_0 : cX5_at.data.toList.drop 0 = dktX5_at_0 := by decide +kernel
theorem dksX5_at_1 : cX5_at.data.toList.drop 24 = dktX5_at_1 := dk_seg dksX5_at_0 24 rfl rfl
theorem dX5_at_0 : decode cX5_at 0 = .ok (.iload_n 1, 1) := dk_27 (dk_at dksX5_at_0 0 rfl rfl)
theorem dX5_at_1 : decode cX5_at 1 = .ok (.aload_n 0, 1) := dk_42 (dk_at dksX5_at_0 1 rfl rfl)
theorem dX5_at_2 : decode cX5_at 2 = .ok (.getfield 3, 3) := dk_180 0 3 (dk_at dksX5_at_0 2 rfl rfl)
theorem dX5_at_5 : decode cX5_at 5 = .ok (.getfield 24, 3) := dk_180 0 24 (dk_at dksX5_at_0 5 rfl rfl)
theorem dX5_at_8 : decode cX5_at 8 = .ok (.if_icmp .ge 19, 3) := dk_162 0 19 (dk_at dksX5_at_0 8 rfl rfl)
theorem dX5_at_11 : decode cX5_at 11 = .ok (.aload_n 0, 1) := dk_42 (dk_at dksX5_at_0 11 rfl rfl)
theorem dX5_at_12 : decode cX5_at 12 = .ok (.getfield 3, 3) := dk_180 0 3 (dk_at dksX5_at_0 12 rfl rfl)
theorem dX5_at_15 : decode cX5_at 15 = .ok (.getfield 28, 3) := dk_180 0 28 (dk_at dksX5_at_0 15 rfl rfl)
theorem dX5_at_18 : decode cX5_at 18 = .ok (.iload_n 1, 1) := dk_27 (dk_at dksX5_at_0 18 rfl rfl)
theorem dX5_at_19 : decode cX5_at 19 = .ok (.baload, 1) := dk_51 (dk_at dksX5_at_0 19 rfl rfl)
theorem dX5_at_20 : decode cX5_at 20 = .ok (.sipush 255, 3) := dk_17 0 255 (dk_at dksX5_at_0 20 rfl rfl)
theorem dX5_at_23 : decode cX5_at 23 = .ok (.iand, 1) := dk_126 (dk_at dksX5_at_0 23 rfl rfl)
theorem dX5_at_24 : decode cX5_at 24 = .ok (.goto 4, 3) := dk_167 0 4 (dk_at dksX5_at_1 0 rfl rfl)
theorem dX5_at_27 : decode cX5_at 27 = .ok (.iconst (-1), 1) := dk_2 (dk_at dksX5_at_1 3 rfl rfl)
theorem dX5_at_28 : decode cX5_at 28 = .ok (.ireturn, 1) := dk_172 (dk_at dksX5_at_1 4 rfl rfl)
abbrev cX5_past : ByteArray := prog_5_method_3_code
def yX5_past : MethodName := ⟨RX5, "past", "(III)I"⟩
def dkwX5_past_1 : List UInt8 := [167, 255, 236, 21, 4, 172]
abbrev dktX5_past_1 : List UInt8 := dkwX5_past_1 ++ []
def dkwX5_past_0 : List UInt8 := [27, 54, 4, 42, 21, 4, 182, 0, 32, 133, 28, 133, 29, 133, 184, 0, 36, 153, 0, 9, 132, 4, 1]
abbrev dktX5_past_0 : List UInt8 := dkwX5_past_0 ++ dktX5_past_1
theorem dksX5_past_0 : cX5_past.data.toList.drop 0 = dktX5_past_0 := by decide +kernel
theorem dksX5_past_1 : cX5_past.data.toList.drop 23 = dktX5_past_1 := dk_seg dksX5_past_0 23 rfl rfl
theorem dX5_past_0 : decode cX5_past 0 = .ok (.iload_n 1, 1) := dk_27 (dk_at dksX5_past_0 0 rfl rfl)
theorem dX5_past_1 : decode cX5_past 1 = .ok (.istore 4, 2) := dk_54 4 (dk_at dksX5_past_0 1 rfl rfl)
theorem dX5_past_3 : decode cX5_past 3 = .ok (.aload_n 0, 1) := dk_42 (dk_at dksX5_past_0 3 rfl rfl)
theorem dX5_past_4 : decode cX5_past 4 = .ok (.iload 4, 2) := dk_21 4 (dk_at dksX5_past_0 4 rfl rfl)
theorem dX5_past_6 : decode cX5_past 6 = .ok (.invokevirtual 32, 3) := dk_182 0 32 (dk_at dksX5_past_0 6 rfl rfl)
theorem dX5_past_9 : decode cX5_past 9 = .ok (.i2l, 1) := dk_133 (dk_at dksX5_past_0 9 rfl rfl)
theorem dX5_past_10 : decode cX5_past 10 = .ok (.iload_n 2, 1) := dk_28 (dk_at dksX5_past_0 10 rfl rfl)
theorem dX5_past_11 : decode cX5_past 11 = .ok (.i2l, 1) := dk_133 (dk_at dksX5_past_0 11 rfl rfl)
theorem dX5_past_12 : decode cX5_past 12 = .ok (.iload_n 3, 1) := dk_29 (dk_at dksX5_past_0 12 rfl rfl)
theorem dX5_past_13 : decode cX5_past 13 = .ok (.i2l, 1) := dk_133 (dk_at dksX5_past_0 13 rfl rfl)
theorem dX5_past_14 : decode cX5_past 14 = .ok (.invokestatic 36, 3) := dk_184 0 36 (dk_at dksX5_past_0 14 rfl rfl)
theorem dX5_past_17 : decode cX5_past 17 = .ok (.ifCond .eq 9, 3) := dk_153 0 9 (dk_at dksX5_past_0 17 rfl rfl)
theorem dX5_past_20 : decode cX5_past 20 = .ok (.iinc 4 1, 3) := dk_132 4 1 (dk_at dksX5_past_0 20 rfl rfl)
theorem dX5_past_23 : decode cX5_past 23 = .ok (.goto (-20), 3) := dk_167 255 236 (dk_at dksX5_past_1 0 rfl rfl)
theorem dX5_past_26 : decode cX5_past 26 = .ok (.iload 4, 2) := dk_21 4 (dk_at dksX5_past_1 3 rfl rfl)
theorem dX5_past_28 : decode cX5_past 28 = .ok (.ireturn, 1) := dk_172 (dk_at dksX5_past_1 5 rfl rfl)
abbrev cX5_text : ByteArray := prog_5_method_4_code
def yX5_text : MethodName := ⟨RX5, "text", "(II)Ljava/lang/String;"⟩
def dkwX5_text_1 : List UInt8 := [146, 182, 0, 43, 87, 132, 4, 1, 167, 255, 235, 45, 182, 0, 47, 176]
abbrev dktX5_text_1 : List UInt8 := dkwX5_text_1 ++ []
def dkwX5_text_0 : List UInt8 := [187, 0, 40, 89, 183, 0, 42, 78, 27, 54, 4, 21, 4, 28, 162, 0, 21, 45, 42, 21, 4, 182, 0, 32]
abbrev dktX5_text_0 : List UInt8 := dkwX5_text_0 ++ dktX5_text_1
theorem dksX5_text_0 : cX5_text.data.toList.drop 0 = dktX5_text_0 := by decide +kernel
theorem dksX5_text_1 : cX5_text.data.toList.drop 24 = dktX5_text_1 := dk_seg dksX5_text_0 24 rfl rfl
theorem dX5_text_0 : decode cX5_text 0 = .ok (.new 40, 3) := dk_187 0 40 (dk_at dksX5_text_0 0 rfl rfl)
theorem dX5_text_3 : decode cX5_text 3 = .ok (.dup, 1) := dk_89 (dk_at dksX5_text_0 3 rfl rfl)
theorem dX5_text_4 : decode cX5_text 4 = .ok (.invokespecial 42, 3) := dk_183 0 42 (dk_at dksX5_text_0 4 rfl rfl)
theorem dX5_text_7 : decode cX5_text 7 = .ok (.astore_n 3, 1) := dk_78 (dk_at dksX5_text_0 7 rfl rfl)
theorem dX5_text_8 : decode cX5_text 8 = .ok (.iload_n 1, 1) := dk_27 (dk_at dksX5_text_0 8 rfl rfl)
theorem dX5_text_9 : decode cX5_text 9 = .ok (.istore 4, 2) := dk_54 4 (dk_at dksX5_text_0 9 rfl rfl)
theorem dX5_text_11 : decode cX5_text 11 = .ok (.iload 4, 2) := dk_21 4 (dk_at dksX5_text_0 11 rfl rfl)
theorem dX5_text_13 : decode cX5_text 13 = .ok (.iload_n 2, 1) := dk_28 (dk_at dksX5_text_0 13 rfl rfl)
theorem dX5_text_14 : decode cX5_text 14 = .ok (.if_icmp .ge 21, 3) := dk_162 0 21 (dk_at dksX5_text_0 14 rfl rfl)
theorem dX5_text_17 : decode cX5_text 17 = .ok (.aload_n 3, 1) := dk_45 (dk_at dksX5_text_0 17 rfl rfl)
theorem dX5_text_18 : decode cX5_text 18 = .ok (.aload_n 0, 1) := dk_42 (dk_at dksX5_text_0 18 rfl rfl)
theorem dX5_text_19 : decode cX5_text 19 = .ok (.iload 4, 2) := dk_21 4 (dk_at dksX5_text_0 19 rfl rfl)
theorem dX5_text_21 : decode cX5_text 21 = .ok (.invokevirtual 32, 3) := dk_182 0 32 (dk_at dksX5_text_0 21 rfl rfl)
theorem dX5_text_24 : decode cX5_text 24 = .ok (.i2c, 1) := dk_146 (dk_at dksX5_text_1 0 rfl rfl)
theorem dX5_text_25 : decode cX5_text 25 = .ok (.invokevirtual 43, 3) := dk_182 0 43 (dk_at dksX5_text_1 1 rfl rfl)
theorem dX5_text_28 : decode cX5_text 28 = .ok (.pop, 1) := dk_87 (dk_at dksX5_text_1 4 rfl rfl)
theorem dX5_text_29 : decode cX5_text 29 = .ok (.iinc 4 1, 3) := dk_132 4 1 (dk_at dksX5_text_1 5 rfl rfl)
theorem dX5_text_32 : decode cX5_text 32 = .ok (.goto (-21), 3) := dk_167 255 235 (dk_at dksX5_text_1 8 rfl rfl)
theorem dX5_text_35 : decode cX5_text 35 = .ok (.aload_n 3, 1) := dk_45 (dk_at dksX5_text_1 11 rfl rfl)
theorem dX5_text_36 : decode cX5_text 36 = .ok (.invokevirtual 47, 3) := dk_182 0 47 (dk_at dksX5_text_1 12 rfl rfl)
theorem dX5_text_39 : decode cX5_text 39 = .ok (.areturn, 1) := dk_176 (dk_at dksX5_text_1 15 rfl rfl)
abbrev cX5_isOver : ByteArray := prog_5_method_7_code
def yX5_isOver : MethodName := ⟨RX5, "isOver", "()Z"⟩
def dkwX5_isOver_0 : List UInt8 := [42, 180, 0, 57, 6, 160, 0, 7, 4, 167, 0, 4, 3, 172]
abbrev dktX5_isOver_0 : List UInt8 := dkwX5_isOver_0 ++ []
theorem dksX5_isOver_0 : cX5_isOver.data.toList.drop 0 = dktX5_isOver_0 := by decide +kernel
theorem dX5_isOver_0 : decode cX5_isOver 0 = .ok (.aload_n 0, 1) := dk_42 (dk_at dksX5_isOver_0 0 rfl rfl)
theorem dX5_isOver_1 : decode cX5_isOver 1 = .ok (.getfield 57, 3) := dk_180 0 57 (dk_at dksX5_isOver_0 1 rfl rfl)
theorem dX5_isOver_4 : decode cX5_isOver 4 = .ok (.iconst 3, 1) := dk_6 (dk_at dksX5_isOver_0 4 rfl rfl)
theorem dX5_isOver_5 : decode cX5_isOver 5 = .ok (.if_icmp .ne 7, 3) := dk_160 0 7 (dk_at dksX5_isOver_0 5 rfl rfl)
theorem dX5_isOver_8 : decode cX5_isOver 8 = .ok (.iconst 1, 1) := dk_4 (dk_at dksX5_isOver_0 8 rfl rfl)
theorem dX5_isOver_9 : decode cX5_isOver 9 = .ok (.goto 4, 3) := dk_167 0 4 (dk_at dksX5_isOver_0 9 rfl rfl)
theorem dX5_isOver_12 : decode cX5_isOver 12 = .ok (.iconst 0, 1) := dk_3 (dk_at dksX5_isOver_0 12 rfl rfl)
theorem dX5_isOver_13 : decode cX5_isOver 13 = .ok (.ireturn, 1) := dk_172 (dk_at dksX5_isOver_0 13 rfl rfl)
abbrev cX5_word : ByteArray := prog_5_method_9_code
def yX5_word : MethodName := ⟨RX5, "word", "()Ljava/lang/String;"⟩
theorem dX5_word_0 : decode cX5_word 0 = .ok (.aload_n 0, 1) := by decide +kernel
theorem dX5_word_1 : decode cX5_word 1 = .ok (.getfield 17, 3) := by decide +kernel
theorem dX5_word_4 : decode cX5_word 4 = .ok (.areturn, 1) := by decide +kernel
abbrev cX5_expect : ByteArray := prog_5_method_6_code
def yX5_expect : MethodName := ⟨RX5, "expect", "(ZI)V"⟩
def dkwX5_expect_0 : List UInt8 := [27, 154, 0, 16, 187, 0, 85, 89, 28, 42, 180, 0, 54, 183, 0, 87, 191, 177]
abbrev dktX5_expect_0 : List UInt8 := dkwX5_expect_0 ++ []
theorem dksX5_expect_0 : cX5_expect.data.toList.drop 0 = dktX5_expect_0 := by decide +kernel
theorem dX5_expect_0 : decode cX5_expect 0 = .ok (.iload_n 1, 1) := dk_27 (dk_at dksX5_expect_0 0 rfl rfl)
theorem dX5_expect_1 : decode cX5_expect 1 = .ok (.ifCond .ne 16, 3) := dk_154 0 16 (dk_at dksX5_expect_0 1 rfl rfl)
theorem dX5_expect_4 : decode cX5_expect 4 = .ok (.new 85, 3) := dk_187 0 85 (dk_at dksX5_expect_0 4 rfl rfl)
theorem dX5_expect_7 : decode cX5_expect 7 = .ok (.dup, 1) := dk_89 (dk_at dksX5_expect_0 7 rfl rfl)
theorem dX5_expect_8 : decode cX5_expect 8 = .ok (.iload_n 2, 1) := dk_28 (dk_at dksX5_expect_0 8 rfl rfl)
theorem dX5_expect_9 : decode cX5_expect 9 = .ok (.aload_n 0, 1) := dk_42 (dk_at dksX5_expect_0 9 rfl rfl)
theorem dX5_expect_10 : decode cX5_expect 10 = .ok (.getfield 54, 3) := dk_180 0 54 (dk_at dksX5_expect_0 10 rfl rfl)
theorem dX5_expect_13 : decode cX5_expect 13 = .ok (.invokespecial 87, 3) := dk_183 0 87 (dk_at dksX5_expect_0 13 rfl rfl)
theorem dX5_expect_16 : decode cX5_expect 16 = .ok (.athrow, 1) := dk_191 (dk_at dksX5_expect_0 16 rfl rfl)
theorem dX5_expect_17 : decode cX5_expect 17 = .ok (.return_, 1) := dk_177 (dk_at dksX5_expect_0 17 rfl rfl)
abbrev cX5_proverb : ByteArray := prog_5_method_11_code
def yX5_proverb : MethodName := ⟨RX5, "proverb", "()[I"⟩
def dkwX5_proverb_2 : List UInt8 := [28, 7, 160, 0, 7, 7, 167, 0, 6, 17, 3, 231, 182, 0, 94, 79, 132, 2, 1, 167, 255, 198, 43, 176]
abbrev dktX5_proverb_2 : List UInt8 := dkwX5_proverb_2 ++ []
def dkwX5_proverb_1 : List UInt8 := [167, 0, 4, 3, 28, 5, 162, 0, 8, 16, 15, 167, 0, 25, 28, 7, 162, 0, 8, 16, 11, 167, 0, 15]
abbrev dktX5_proverb_1 : List UInt8 := dkwX5_proverb_1 ++ dktX5_proverb_2
def dkwX5_proverb_0 : List UInt8 := [16, 6, 188, 10, 76, 3, 61, 28, 16, 6, 162, 0, 58, 43, 28, 42, 28, 8, 160, 0, 7, 4]
abbrev dktX5_proverb_0 : List UInt8 := dkwX5_proverb_0 ++ dktX5_proverb_1
theorem dksX5_proverb_0 : cX5_proverb.data.toList.drop 0 = dktX5_proverb_0 := by decide +kernel
theorem dksX5_proverb_1 : cX5_proverb.data.toList.drop 22 = dktX5_proverb_1 := dk_seg dksX5_proverb_0 22 rfl rfl
theorem dksX5_proverb_2 : cX5_proverb.data.toList.drop 46 = dktX5_proverb_2 := dk_seg dksX5_proverb_1 24 rfl rfl
theorem dX5_proverb_0 : decode cX5_proverb 0 = .ok (.bipush 6, 2) := dk_16 6 (dk_at dksX5_proverb_0 0 rfl rfl)
theorem dX5_proverb_2 : decode cX5_proverb 2 = .ok (.newarray .int, 2) := dk_188_10 (dk_at dksX5_proverb_0 2 rfl rfl)
theorem dX5_proverb_4 : decode cX5_proverb 4 = .ok (.astore_n 1, 1) := dk_76 (dk_at dksX5_proverb_0 4 rfl rfl)
theorem dX5_proverb_5 : decode cX5_proverb 5 = .ok (.iconst 0, 1) := dk_3 (dk_at dksX5_proverb_0 5 rfl rfl)
theorem dX5_proverb_6 : decode cX5_proverb 6 = .ok (.istore_n 2, 1) := dk_61 (dk_at dksX5_proverb_0 6 rfl rfl)
theorem dX5_proverb_7 : decode cX5_proverb 7 = .ok (.iload_n 2, 1) := dk_28 (dk_at dksX5_proverb_0 7 rfl rfl)
theorem dX5_proverb_8 : decode cX5_proverb 8 = .ok (.bipush 6, 2) := dk_16 6 (dk_at dksX5_proverb_0 8 rfl rfl)
theorem dX5_proverb_10 : decode cX5_proverb 10 = .ok (.if_icmp .ge 58, 3) := dk_162 0 58 (dk_at dksX5_proverb_0 10 rfl rfl)
theorem dX5_proverb_13 : decode cX5_proverb 13 = .ok (.aload_n 1, 1) := dk_43 (dk_at dksX5_proverb_0 13 rfl rfl)
theorem dX5_proverb_14 : decode cX5_proverb 14 = .ok (.iload_n 2, 1) := dk_28 (dk_at dksX5_proverb_0 14 rfl rfl)
theorem dX5_proverb_15 : decode cX5_proverb 15 = .ok (.aload_n 0, 1) := dk_42 (dk_at dksX5_proverb_0 15 rfl rfl)
theorem dX5_proverb_16 : decode cX5_proverb 16 = .ok (.iload_n 2, 1) := dk_28 (dk_at dksX5_proverb_0 16 rfl rfl)
theorem dX5_proverb_17 : decode cX5_proverb 17 = .ok (.iconst 5, 1) := dk_8 (dk_at dksX5_proverb_0 17 rfl rfl)
theorem dX5_proverb_18 : decode cX5_proverb 18 = .ok (.if_icmp .ne 7, 3) := dk_160 0 7 (dk_at dksX5_proverb_0 18 rfl rfl)
theorem dX5_proverb_21 : decode cX5_proverb 21 = .ok (.iconst 1, 1) := dk_4 (dk_at dksX5_proverb_0 21 rfl rfl)
theorem dX5_proverb_22 : decode cX5_proverb 22 = .ok (.goto 4, 3) := dk_167 0 4 (dk_at dksX5_proverb_1 0 rfl rfl)
theorem dX5_proverb_25 : decode cX5_proverb 25 = .ok (.iconst 0, 1) := dk_3 (dk_at dksX5_proverb_1 3 rfl rfl)
theorem dX5_proverb_26 : decode cX5_proverb 26 = .ok (.iload_n 2, 1) := dk_28 (dk_at dksX5_proverb_1 4 rfl rfl)
theorem dX5_proverb_27 : decode cX5_proverb 27 = .ok (.iconst 2, 1) := dk_5 (dk_at dksX5_proverb_1 5 rfl rfl)
theorem dX5_proverb_28 : decode cX5_proverb 28 = .ok (.if_icmp .ge 8, 3) := dk_162 0 8 (dk_at dksX5_proverb_1 6 rfl rfl)
theorem dX5_proverb_31 : decode cX5_proverb 31 = .ok (.bipush 15, 2) := dk_16 15 (dk_at dksX5_proverb_1 9 rfl rfl)
theorem dX5_proverb_33 : decode cX5_proverb 33 = .ok (.goto 25, 3) := dk_167 0 25 (dk_at dksX5_proverb_1 11 rfl rfl)
theorem dX5_proverb_36 : decode cX5_proverb 36 = .ok (.iload_n 2, 1) := dk_28 (dk_at dksX5_proverb_1 14 rfl rfl)
theorem dX5_proverb_37 : decode cX5_proverb 37 = .ok (.iconst 4, 1) := dk_7 (dk_at dksX5_proverb_1 15 rfl rfl)
theorem dX5_proverb_38 : decode cX5_proverb 38 = .ok (.if_icmp .ge 8, 3) := dk_162 0 8 (dk_at dksX5_proverb_1 16 rfl rfl)
theorem dX5_proverb_41 : decode cX5_proverb 41 = .ok (.bipush 11, 2) := dk_16 11 (dk_at dksX5_proverb_1 19 rfl rfl)
theorem dX5_proverb_43 : decode cX5_proverb 43 = .ok (.goto 15, 3) := dk_167 0 15 (dk_at dksX5_proverb_1 21 rfl rfl)
theorem dX5_proverb_46 : decode cX5_proverb 46 = .ok (.iload_n 2, 1) := dk_28 (dk_at dksX5_proverb_2 0 rfl rfl)
theorem dX5_proverb_47 : decode cX5_proverb 47 = .ok (.iconst 4, 1) := dk_7 (dk_at dksX5_proverb_2 1 rfl rfl)
theorem dX5_proverb_48 : decode cX5_proverb 48 = .ok (.if_icmp .ne 7, 3) := dk_160 0 7 (dk_at dksX5_proverb_2 2 rfl rfl)
theorem dX5_proverb_51 : decode cX5_proverb 51 = .ok (.iconst 4, 1) := dk_7 (dk_at dksX5_proverb_2 5 rfl rfl)
theorem dX5_proverb_52 : decode cX5_proverb 52 = .ok (.goto 6, 3) := dk_167 0 6 (dk_at dksX5_proverb_2 6 rfl rfl)
theorem dX5_proverb_55 : decode cX5_proverb 55 = .ok (.sipush 999, 3) := dk_17 3 231 (dk_at dksX5_proverb_2 9 rfl rfl)
theorem dX5_proverb_58 : decode cX5_proverb 58 = .ok (.invokevirtual 94, 3) := dk_182 0 94 (dk_at dksX5_proverb_2 12 rfl rfl)
theorem dX5_proverb_61 : decode cX5_proverb 61 = .ok (.iastore, 1) := dk_79 (dk_at dksX5_proverb_2 15 rfl rfl)
theorem dX5_proverb_62 : decode cX5_proverb 62 = .ok (.iinc 2 1, 3) := dk_132 2 1 (dk_at dksX5_proverb_2 16 rfl rfl)
theorem dX5_proverb_65 : decode cX5_proverb 65 = .ok (.goto (-58), 3) := dk_167 255 198 (dk_at dksX5_proverb_2 19 rfl rfl)
theorem dX5_proverb_68 : decode cX5_proverb 68 = .ok (.aload_n 1, 1) := dk_43 (dk_at dksX5_proverb_2 22 rfl rfl)
theorem dX5_proverb_69 : decode cX5_proverb 69 = .ok (.areturn, 1) := dk_176 (dk_at dksX5_proverb_2 23 rfl rfl)
abbrev cX5_number : ByteArray := prog_5_method_10_code
def yX5_number : MethodName := ⟨RX5, "number", "(II)I"⟩
def dkwX5_number_1 : List UInt8 := [27, 133, 28, 133, 184, 0, 36, 5, 182, 0, 90, 42, 180, 0, 82, 62, 42, 182, 0, 21, 29, 172]
abbrev dktX5_number_1 : List UInt8 := dkwX5_number_1 ++ []
def dkwX5_number_0 : List UInt8 := [42, 42, 180, 0, 57, 4, 160, 0, 7, 4, 167, 0, 4, 3, 4, 182, 0, 90, 42, 42, 180, 0, 82, 133]
abbrev dktX5_number_0 : List UInt8 := dkwX5_number_0 ++ dktX5_number_1
theorem dksX5_number_0 : cX5_number.data.toList.drop 0 = dktX5_number_0 := by decide +kernel
theorem dksX5_number_1 : cX5_number.data.toList.drop 24 = dktX5_number_1 := dk_seg dksX5_number_0 24 rfl rfl
theorem dX5_number_0 : decode cX5_number 0 = .ok (.aload_n 0, 1) := dk_42 (dk_at dksX5_number_0 0 rfl rfl)
theorem dX5_number_1 : decode cX5_number 1 = .ok (.aload_n 0, 1) := dk_42 (dk_at dksX5_number_0 1 rfl rfl)
theorem dX5_number_2 : decode cX5_number 2 = .ok (.getfield 57, 3) := dk_180 0 57 (dk_at dksX5_number_0 2 rfl rfl)
theorem dX5_number_5 : decode cX5_number 5 = .ok (.iconst 1, 1) := dk_4 (dk_at dksX5_number_0 5 rfl rfl)
theorem dX5_number_6 : decode cX5_number 6 = .ok (.if_icmp .ne 7, 3) := dk_160 0 7 (dk_at dksX5_number_0 6 rfl rfl)
theorem dX5_number_9 : decode cX5_number 9 = .ok (.iconst 1, 1) := dk_4 (dk_at dksX5_number_0 9 rfl rfl)
theorem dX5_number_10 : decode cX5_number 10 = .ok (.goto 4, 3) := dk_167 0 4 (dk_at dksX5_number_0 10 rfl rfl)
theorem dX5_number_13 : decode cX5_number 13 = .ok (.iconst 0, 1) := dk_3 (dk_at dksX5_number_0 13 rfl rfl)
theorem dX5_number_14 : decode cX5_number 14 = .ok (.iconst 1, 1) := dk_4 (dk_at dksX5_number_0 14 rfl rfl)
theorem dX5_number_15 : decode cX5_number 15 = .ok (.invokevirtual 90, 3) := dk_182 0 90 (dk_at dksX5_number_0 15 rfl rfl)
theorem dX5_number_18 : decode cX5_number 18 = .ok (.aload_n 0, 1) := dk_42 (dk_at dksX5_number_0 18 rfl rfl)
theorem dX5_number_19 : decode cX5_number 19 = .ok (.aload_n 0, 1) := dk_42 (dk_at dksX5_number_0 19 rfl rfl)
theorem dX5_number_20 : decode cX5_number 20 = .ok (.getfield 82, 3) := dk_180 0 82 (dk_at dksX5_number_0 20 rfl rfl)
theorem dX5_number_23 : decode cX5_number 23 = .ok (.i2l, 1) := dk_133 (dk_at dksX5_number_0 23 rfl rfl)
theorem dX5_number_24 : decode cX5_number 24 = .ok (.iload_n 1, 1) := dk_27 (dk_at dksX5_number_1 0 rfl rfl)
theorem dX5_number_25 : decode cX5_number 25 = .ok (.i2l, 1) := dk_133 (dk_at dksX5_number_1 1 rfl rfl)
theorem dX5_number_26 : decode cX5_number 26 = .ok (.iload_n 2, 1) := dk_28 (dk_at dksX5_number_1 2 rfl rfl)
theorem dX5_number_27 : decode cX5_number 27 = .ok (.i2l, 1) := dk_133 (dk_at dksX5_number_1 3 rfl rfl)
theorem dX5_number_28 : decode cX5_number 28 = .ok (.invokestatic 36, 3) := dk_184 0 36 (dk_at dksX5_number_1 4 rfl rfl)
theorem dX5_number_31 : decode cX5_number 31 = .ok (.iconst 2, 1) := dk_5 (dk_at dksX5_number_1 7 rfl rfl)
theorem dX5_number_32 : decode cX5_number 32 = .ok (.invokevirtual 90, 3) := dk_182 0 90 (dk_at dksX5_number_1 8 rfl rfl)
theorem dX5_number_35 : decode cX5_number 35 = .ok (.aload_n 0, 1) := dk_42 (dk_at dksX5_number_1 11 rfl rfl)
theorem dX5_number_36 : decode cX5_number 36 = .ok (.getfield 82, 3) := dk_180 0 82 (dk_at dksX5_number_1 12 rfl rfl)
theorem dX5_number_39 : decode cX5_number 39 = .ok (.istore_n 3, 1) := dk_62 (dk_at dksX5_number_1 15 rfl rfl)
theorem dX5_number_40 : decode cX5_number 40 = .ok (.aload_n 0, 1) := dk_42 (dk_at dksX5_number_1 16 rfl rfl)
theorem dX5_number_41 : decode cX5_number 41 = .ok (.invokevirtual 21, 3) := dk_182 0 21 (dk_at dksX5_number_1 17 rfl rfl)
theorem dX5_number_44 : decode cX5_number 44 = .ok (.iload_n 3, 1) := dk_29 (dk_at dksX5_number_1 20 rfl rfl)
theorem dX5_number_45 : decode cX5_number 45 = .ok (.ireturn, 1) := dk_172 (dk_at dksX5_number_1 21 rfl rfl)
abbrev cX5_isSemicolon : ByteArray := prog_5_method_8_code
def yX5_isSemicolon : MethodName := ⟨RX5, "isSemicolon", "()Z"⟩
def dkwX5_isSemicolon_0 : List UInt8 := [42, 180, 0, 57, 5, 160, 0, 7, 4, 167, 0, 4, 3, 172]
abbrev dktX5_isSemicolon_0 : List UInt8 := dkwX5_isSemicolon_0 ++ []
theorem dksX5_isSemicolon_0 : cX5_isSemicolon.data.toList.drop 0 = dktX5_isSemicolon_0 := by decide +kernel
theorem dX5_isSemicolon_0 : decode cX5_isSemicolon 0 = .ok (.aload_n 0, 1) := dk_42 (dk_at dksX5_isSemicolon_0 0 rfl rfl)
theorem dX5_isSemicolon_1 : decode cX5_isSemicolon 1 = .ok (.getfield 57, 3) := dk_180 0 57 (dk_at dksX5_isSemicolon_0 1 rfl rfl)
theorem dX5_isSemicolon_4 : decode cX5_isSemicolon 4 = .ok (.iconst 2, 1) := dk_5 (dk_at dksX5_isSemicolon_0 4 rfl rfl)
theorem dX5_isSemicolon_5 : decode cX5_isSemicolon 5 = .ok (.if_icmp .ne 7, 3) := dk_160 0 7 (dk_at dksX5_isSemicolon_0 5 rfl rfl)
theorem dX5_isSemicolon_8 : decode cX5_isSemicolon 8 = .ok (.iconst 1, 1) := dk_4 (dk_at dksX5_isSemicolon_0 8 rfl rfl)
theorem dX5_isSemicolon_9 : decode cX5_isSemicolon 9 = .ok (.goto 4, 3) := dk_167 0 4 (dk_at dksX5_isSemicolon_0 9 rfl rfl)
theorem dX5_isSemicolon_12 : decode cX5_isSemicolon 12 = .ok (.iconst 0, 1) := dk_3 (dk_at dksX5_isSemicolon_0 12 rfl rfl)
theorem dX5_isSemicolon_13 : decode cX5_isSemicolon 13 = .ok (.ireturn, 1) := dk_172 (dk_at dksX5_isSemicolon_0 13 rfl rfl)
abbrev cX5_end : ByteArray := prog_5_method_12_code
def yX5_end : MethodName := ⟨RX5, "end", "()V"⟩
def dkwX5_end_0 : List UInt8 := [42, 42, 180, 0, 57, 5, 160, 0, 7, 4, 167, 0, 4, 3, 4, 182, 0, 90, 42, 182, 0, 21, 177]
abbrev dktX5_end_0 : List UInt8 := dkwX5_end_0 ++ []
theorem dksX5_end_0 : cX5_end.data.toList.drop 0 = dktX5_end_0 := by decide +kernel
theorem dX5_end_0 : decode cX5_end 0 = .ok (.aload_n 0, 1) := dk_42 (dk_at dksX5_end_0 0 rfl rfl)
theorem dX5_end_1 : decode cX5_end 1 = .ok (.aload_n 0, 1) := dk_42 (dk_at dksX5_end_0 1 rfl rfl)
theorem dX5_end_2 : decode cX5_end 2 = .ok (.getfield 57, 3) := dk_180 0 57 (dk_at dksX5_end_0 2 rfl rfl)
theorem dX5_end_5 : decode cX5_end 5 = .ok (.iconst 2, 1) := dk_5 (dk_at dksX5_end_0 5 rfl rfl)
theorem dX5_end_6 : decode cX5_end 6 = .ok (.if_icmp .ne 7, 3) := dk_160 0 7 (dk_at dksX5_end_0 6 rfl rfl)
theorem dX5_end_9 : decode cX5_end 9 = .ok (.iconst 1, 1) := dk_4 (dk_at dksX5_end_0 9 rfl rfl)
theorem dX5_end_10 : decode cX5_end 10 = .ok (.goto 4, 3) := dk_167 0 4 (dk_at dksX5_end_0 10 rfl rfl)
theorem dX5_end_13 : decode cX5_end 13 = .ok (.iconst 0, 1) := dk_3 (dk_at dksX5_end_0 13 rfl rfl)
theorem dX5_end_14 : decode cX5_end 14 = .ok (.iconst 1, 1) := dk_4 (dk_at dksX5_end_0 14 rfl rfl)
theorem dX5_end_15 : decode cX5_end 15 = .ok (.invokevirtual 90, 3) := dk_182 0 90 (dk_at dksX5_end_0 15 rfl rfl)
theorem dX5_end_18 : decode cX5_end 18 = .ok (.aload_n 0, 1) := dk_42 (dk_at dksX5_end_0 18 rfl rfl)
theorem dX5_end_19 : decode cX5_end 19 = .ok (.invokevirtual 21, 3) := dk_182 0 21 (dk_at dksX5_end_0 19 rfl rfl)
theorem dX5_end_22 : decode cX5_end 22 = .ok (.return_, 1) := dk_177 (dk_at dksX5_end_0 22 rfl rfl)
theorem q165 : (Jvm.Cond.initialized "RoseProverbs$Parser") ∈ lw_all := lw_g (lw_at lw_m1 33 rfl) rfl
theorem q1203 : (Jvm.Cond.fieldLinkNest "RoseProverbs$Parser" (28 : Nat) "RoseProverbs" "input" "[B" "RoseProverbs") ∈ lw_tbl := lw_at lw_m5 111 rfl
theorem q1205 : (Jvm.Cond.fieldLinkNest "RoseProverbs$Parser" (24 : Nat) "RoseProverbs" "inputLength" "I" "RoseProverbs") ∈ lw_tbl := lw_at lw_m5 113 rfl
theorem q1263 : (Jvm.Cond.instanceMethod ({ cls := "RoseProverbs$Parser", name := "<init>", desc := "(LRoseProverbs;)V" } : Jvm.MethodName)) ∈ lw_all := lw_g (lw_at lw_m5 171 rfl) rfl
theorem q1264 : (Jvm.Cond.code ({ cls := "RoseProverbs$Parser", name := "<init>", desc := "(LRoseProverbs;)V" } : Jvm.MethodName) prog_5_method_1_code (2 : Nat) (Option.none : Option Jvm.ClassFile.FieldType)) ∈ lw_all := lw_g (lw_at lw_m5 172 rfl) rfl
theorem q1265 : (Jvm.Cond.methodLink "RoseProverbs$Parser" (9 : Nat) ({ cls := "java/lang/Object", name := "<init>", desc := "()V" } : Jvm.MethodName)) ∈ lw_all := lw_g (lw_at lw_m5 173 rfl) rfl
theorem q1266 : (Jvm.Cond.stringRef "RoseProverbs$Parser" (15 : Nat) "") ∈ lw_tbl := lw_at lw_m5 174 rfl
theorem q1267 : (Jvm.Cond.methodLink "RoseProverbs$Parser" (21 : Nat) ({ cls := "RoseProverbs$Parser", name := "advance", desc := "()V" } : Jvm.MethodName)) ∈ lw_all := lw_g (lw_at lw_m5 175 rfl) rfl
theorem q1268 : (Jvm.Cond.instanceMethod ({ cls := "RoseProverbs$Parser", name := "advance", desc := "()V" } : Jvm.MethodName)) ∈ lw_all := lw_g (lw_at lw_m5 176 rfl) rfl
theorem q1269 : (Jvm.Cond.sameMethod "RoseProverbs$Parser" "RoseProverbs$Parser" "advance" "()V") ∈ lw_all := lw_g (lw_at lw_m5 177 rfl) rfl
theorem q1272 : (Jvm.Cond.code ({ cls := "RoseProverbs$Parser", name := "advance", desc := "()V" } : Jvm.MethodName) prog_5_method_5_code (2 : Nat) (Option.none : Option Jvm.ClassFile.FieldType)) ∈ lw_all := lw_g (lw_at lw_m5 180 rfl) rfl
theorem q1273 : (Jvm.Cond.methodLink "RoseProverbs$Parser" (32 : Nat) ({ cls := "RoseProverbs$Parser", name := "at", desc := "(I)I" } : Jvm.MethodName)) ∈ lw_all := lw_g (lw_at lw_m5 181 rfl) rfl
theorem q1274 : (Jvm.Cond.privateMethod ({ cls := "RoseProverbs$Parser", name := "at", desc := "(I)I" } : Jvm.MethodName)) ∈ lw_tbl := lw_at lw_m5 182 rfl
theorem q1275 : (Jvm.Cond.instanceMethod ({ cls := "RoseProverbs$Parser", name := "at", desc := "(I)I" } : Jvm.MethodName)) ∈ lw_all := lw_g (lw_at lw_m5 183 rfl) rfl
theorem q1276 : (Jvm.Cond.instantiable "RoseProverbs$Parser" (6 : Nat)) ∈ lw_all := lw_g (lw_at lw_m5 184 rfl) rfl
theorem q1277 : (Jvm.Cond.code ({ cls := "RoseProverbs$Parser", name := "at", desc := "(I)I" } : Jvm.MethodName) prog_5_method_2_code (2 : Nat) (Option.some Jvm.ClassFile.FieldType.int)) ∈ lw_all := lw_g (lw_at lw_m5 185 rfl) rfl
theorem q1278 : (Jvm.Cond.constantLong "RoseProverbs$Parser" (60 : Nat) (97 : Int64)) ∈ lw_all := lw_g (lw_at lw_m5 186 rfl) rfl
theorem q1279 : (Jvm.Cond.constantLong "RoseProverbs$Parser" (62 : Nat) (122 : Int64)) ∈ lw_all := lw_g (lw_at lw_m5 187 rfl) rfl
theorem q1280 : (Jvm.Cond.methodLinkNest "RoseProverbs$Parser" (36 : Nat) ({ cls := "RoseProverbs", name := "isIn", desc := "(JJJ)Z" } : Jvm.MethodName) "RoseProverbs") ∈ lw_tbl := lw_at lw_m5 188 rfl
theorem q1281 : (Jvm.Cond.methodLink "RoseProverbs$Parser" (64 : Nat) ({ cls := "RoseProverbs$Parser", name := "past", desc := "(III)I" } : Jvm.MethodName)) ∈ lw_all := lw_g (lw_at lw_m5 189 rfl) rfl
theorem q1282 : (Jvm.Cond.privateMethod ({ cls := "RoseProverbs$Parser", name := "past", desc := "(III)I" } : Jvm.MethodName)) ∈ lw_tbl := lw_at lw_m5 190 rfl
theorem q1283 : (Jvm.Cond.instanceMethod ({ cls := "RoseProverbs$Parser", name := "past", desc := "(III)I" } : Jvm.MethodName)) ∈ lw_all := lw_g (lw_at lw_m5 191 rfl) rfl
theorem q1284 : (Jvm.Cond.code ({ cls := "RoseProverbs$Parser", name := "past", desc := "(III)I" } : Jvm.MethodName) prog_5_method_3_code (5 : Nat) (Option.some Jvm.ClassFile.FieldType.int)) ∈ lw_all := lw_g (lw_at lw_m5 192 rfl) rfl
theorem q1285 : (Jvm.Cond.methodLink "RoseProverbs$Parser" (68 : Nat) ({ cls := "RoseProverbs$Parser", name := "text", desc := "(II)Ljava/lang/String;" } : Jvm.MethodName)) ∈ lw_all := lw_g (lw_at lw_m5 193 rfl) rfl
theorem q1286 : (Jvm.Cond.privateMethod ({ cls := "RoseProverbs$Parser", name := "text", desc := "(II)Ljava/lang/String;" } : Jvm.MethodName)) ∈ lw_tbl := lw_at lw_m5 194 rfl
theorem q1287 : (Jvm.Cond.instanceMethod ({ cls := "RoseProverbs$Parser", name := "text", desc := "(II)Ljava/lang/String;" } : Jvm.MethodName)) ∈ lw_all := lw_g (lw_at lw_m5 195 rfl) rfl
theorem q1288 : (Jvm.Cond.code ({ cls := "RoseProverbs$Parser", name := "text", desc := "(II)Ljava/lang/String;" } : Jvm.MethodName) prog_5_method_4_code (5 : Nat) (Option.some (Jvm.ClassFile.FieldType.object "java/lang/String"))) ∈ lw_all := lw_g (lw_at lw_m5 196 rfl) rfl
theorem q1289 : (Jvm.Cond.classLink "RoseProverbs$Parser" (40 : Nat) "java/lang/StringBuilder") ∈ lw_all := lw_g (lw_at lw_m5 197 rfl) rfl
theorem q1290 : (Jvm.Cond.methodLink "RoseProverbs$Parser" (42 : Nat) ({ cls := "java/lang/StringBuilder", name := "<init>", desc := "()V" } : Jvm.MethodName)) ∈ lw_all := lw_g (lw_at lw_m5 198 rfl) rfl
theorem q1291 : (Jvm.Cond.methodLink "RoseProverbs$Parser" (43 : Nat) ({ cls := "java/lang/StringBuilder", name := "append", desc := "(C)Ljava/lang/StringBuilder;" } : Jvm.MethodName)) ∈ lw_all := lw_g (lw_at lw_m5 199 rfl) rfl
theorem q1311 : (Jvm.Cond.methodLink "RoseProverbs$Parser" (47 : Nat) ({ cls := "java/lang/StringBuilder", name := "toString", desc := "()Ljava/lang/String;" } : Jvm.MethodName)) ∈ lw_all := lw_g (lw_at lw_m5 219 rfl) rfl
theorem q1312 : (Jvm.Cond.constantLong "RoseProverbs$Parser" (72 : Nat) (48 : Int64)) ∈ lw_all := lw_g (lw_at lw_m5 220 rfl) rfl
theorem q1313 : (Jvm.Cond.constantLong "RoseProverbs$Parser" (74 : Nat) (57 : Int64)) ∈ lw_all := lw_g (lw_at lw_m5 221 rfl) rfl
theorem q1314 : (Jvm.Cond.methodLink "RoseProverbs$Parser" (76 : Nat) ({ cls := "java/lang/Integer", name := "parseInt", desc := "(Ljava/lang/String;)I" } : Jvm.MethodName)) ∈ lw_all := lw_g (lw_at lw_m5 222 rfl) rfl
theorem q1401 : (Jvm.Cond.fieldLink "RoseProverbs$Parser" (54 : Nat) "RoseProverbs$Parser" "start" "I") ∈ lw_all := lw_g (lw_at lw_m6 69 rfl) rfl
theorem q1402 : (Jvm.Cond.fieldLink "RoseProverbs$Parser" (51 : Nat) "RoseProverbs$Parser" "next" "I") ∈ lw_all := lw_g (lw_at lw_m6 70 rfl) rfl
theorem q1403 : (Jvm.Cond.fieldLink "RoseProverbs$Parser" (57 : Nat) "RoseProverbs$Parser" "token" "I") ∈ lw_all := lw_g (lw_at lw_m6 71 rfl) rfl
theorem q1404 : (Jvm.Cond.fieldLink "RoseProverbs$Parser" (82 : Nat) "RoseProverbs$Parser" "value" "I") ∈ lw_all := lw_g (lw_at lw_m6 72 rfl) rfl
theorem q1405 : (Jvm.Cond.fieldLink "RoseProverbs$Parser" (17 : Nat) "RoseProverbs$Parser" "word" "Ljava/lang/String;") ∈ lw_all := lw_g (lw_at lw_m6 73 rfl) rfl
theorem q1406 : (Jvm.Cond.fieldLink "RoseProverbs$Parser" (3 : Nat) "RoseProverbs$Parser" "this$0" "LRoseProverbs;") ∈ lw_all := lw_g (lw_at lw_m6 74 rfl) rfl
theorem q1412 : (Jvm.Cond.soleField "RoseProverbs$Parser" "start") ∈ lw_all := lw_g (lw_at lw_m6 80 rfl) rfl
theorem q1414 : (Jvm.Cond.soleField "RoseProverbs$Parser" "next") ∈ lw_all := lw_g (lw_at lw_m6 82 rfl) rfl
theorem q1416 : (Jvm.Cond.soleField "RoseProverbs$Parser" "token") ∈ lw_all := lw_g (lw_at lw_m6 84 rfl) rfl
theorem q1418 : (Jvm.Cond.soleField "RoseProverbs$Parser" "value") ∈ lw_all := lw_g (lw_at lw_m6 86 rfl) rfl
theorem q1420 : (Jvm.Cond.soleField "RoseProverbs$Parser" "word") ∈ lw_all := lw_g (lw_at lw_m6 88 rfl) rfl
theorem q1422 : (Jvm.Cond.soleField "RoseProverbs$Parser" "this$0") ∈ lw_all := lw_g (lw_at lw_m6 90 rfl) rfl
theorem q1430 : (Jvm.Cond.declares ({ cls := "RoseProverbs$Parser", name := "isOver", desc := "()Z" } : Jvm.MethodName)) ∈ lw_tbl := lw_at lw_m6 98 rfl
theorem q1432 : (Jvm.Cond.instanceMethod ({ cls := "RoseProverbs$Parser", name := "isOver", desc := "()Z" } : Jvm.MethodName)) ∈ lw_all := lw_g (lw_at lw_m6 100 rfl) rfl
theorem q1433 : (Jvm.Cond.code ({ cls := "RoseProverbs$Parser", name := "isOver", desc := "()Z" } : Jvm.MethodName) prog_5_method_7_code (1 : Nat) (Option.some Jvm.ClassFile.FieldType.boolean)) ∈ lw_all := lw_g (lw_at lw_m6 101 rfl) rfl
theorem q1436 : (Jvm.Cond.declares ({ cls := "RoseProverbs$Parser", name := "word", desc := "()Ljava/lang/String;" } : Jvm.MethodName)) ∈ lw_tbl := lw_at lw_m6 104 rfl
theorem q1438 : (Jvm.Cond.instanceMethod ({ cls := "RoseProverbs$Parser", name := "word", desc := "()Ljava/lang/String;" } : Jvm.MethodName)) ∈ lw_all := lw_g (lw_at lw_m6 106 rfl) rfl
theorem q1439 : (Jvm.Cond.code ({ cls := "RoseProverbs$Parser", name := "word", desc := "()Ljava/lang/String;" } : Jvm.MethodName) prog_5_method_9_code (1 : Nat) (Option.some (Jvm.ClassFile.FieldType.object "java/lang/String"))) ∈ lw_all := lw_g (lw_at lw_m6 107 rfl) rfl
theorem q1456 : (Jvm.Cond.declares ({ cls := "RoseProverbs$Parser", name := "expect", desc := "(ZI)V" } : Jvm.MethodName)) ∈ lw_tbl := lw_at lw_m6 124 rfl
theorem q1458 : (Jvm.Cond.instanceMethod ({ cls := "RoseProverbs$Parser", name := "expect", desc := "(ZI)V" } : Jvm.MethodName)) ∈ lw_all := lw_g (lw_at lw_m6 126 rfl) rfl
theorem q1459 : (Jvm.Cond.code ({ cls := "RoseProverbs$Parser", name := "expect", desc := "(ZI)V" } : Jvm.MethodName) prog_5_method_6_code (3 : Nat) (Option.none : Option Jvm.ClassFile.FieldType)) ∈ lw_all := lw_g (lw_at lw_m6 127 rfl) rfl
theorem q1460 : (Jvm.Cond.classLink "RoseProverbs$Parser" (85 : Nat) "RoseProverbs$ParseException") ∈ lw_all := lw_g (lw_at lw_m6 128 rfl) rfl
theorem q1469 : (Jvm.Cond.methodLink "RoseProverbs$Parser" (87 : Nat) ({ cls := "RoseProverbs$ParseException", name := "<init>", desc := "(II)V" } : Jvm.MethodName)) ∈ lw_all := lw_g (lw_at lw_m6 137 rfl) rfl
theorem q1490 : (Jvm.Cond.declares ({ cls := "RoseProverbs$Parser", name := "advance", desc := "()V" } : Jvm.MethodName)) ∈ lw_tbl := lw_at lw_m6 158 rfl
theorem q1494 : (Jvm.Cond.declares ({ cls := "RoseProverbs$Parser", name := "proverb", desc := "()[I" } : Jvm.MethodName)) ∈ lw_tbl := lw_at lw_m6 162 rfl
theorem q1496 : (Jvm.Cond.instanceMethod ({ cls := "RoseProverbs$Parser", name := "proverb", desc := "()[I" } : Jvm.MethodName)) ∈ lw_all := lw_g (lw_at lw_m6 164 rfl) rfl
theorem q1497 : (Jvm.Cond.code ({ cls := "RoseProverbs$Parser", name := "proverb", desc := "()[I" } : Jvm.MethodName) prog_5_method_11_code (3 : Nat) (Option.some (Jvm.ClassFile.FieldType.array Jvm.ClassFile.FieldType.int))) ∈ lw_all := lw_g (lw_at lw_m6 165 rfl) rfl
theorem q1498 : (Jvm.Cond.methodLink "RoseProverbs$Parser" (94 : Nat) ({ cls := "RoseProverbs$Parser", name := "number", desc := "(II)I" } : Jvm.MethodName)) ∈ lw_all := lw_g (lw_at lw_m6 166 rfl) rfl
theorem q1499 : (Jvm.Cond.instanceMethod ({ cls := "RoseProverbs$Parser", name := "number", desc := "(II)I" } : Jvm.MethodName)) ∈ lw_all := lw_g (lw_at lw_m6 167 rfl) rfl
theorem q1500 : (Jvm.Cond.sameMethod "RoseProverbs$Parser" "RoseProverbs$Parser" "number" "(II)I") ∈ lw_all := lw_g (lw_at lw_m6 168 rfl) rfl
theorem q1503 : (Jvm.Cond.code ({ cls := "RoseProverbs$Parser", name := "number", desc := "(II)I" } : Jvm.MethodName) prog_5_method_10_code (4 : Nat) (Option.some Jvm.ClassFile.FieldType.int)) ∈ lw_all := lw_g (lw_at lw_m6 171 rfl) rfl
theorem q1504 : (Jvm.Cond.methodLink "RoseProverbs$Parser" (90 : Nat) ({ cls := "RoseProverbs$Parser", name := "expect", desc := "(ZI)V" } : Jvm.MethodName)) ∈ lw_all := lw_g (lw_at lw_m6 172 rfl) rfl
theorem q1507 : (Jvm.Cond.declares ({ cls := "RoseProverbs$Parser", name := "isSemicolon", desc := "()Z" } : Jvm.MethodName)) ∈ lw_tbl := lw_at lw_m6 175 rfl
theorem q1509 : (Jvm.Cond.instanceMethod ({ cls := "RoseProverbs$Parser", name := "isSemicolon", desc := "()Z" } : Jvm.MethodName)) ∈ lw_all := lw_g (lw_at lw_m6 177 rfl) rfl
theorem q1510 : (Jvm.Cond.code ({ cls := "RoseProverbs$Parser", name := "isSemicolon", desc := "()Z" } : Jvm.MethodName) prog_5_method_8_code (1 : Nat) (Option.some Jvm.ClassFile.FieldType.boolean)) ∈ lw_all := lw_g (lw_at lw_m6 178 rfl) rfl
theorem q1604 : (Jvm.Cond.declares ({ cls := "RoseProverbs$Parser", name := "number", desc := "(II)I" } : Jvm.MethodName)) ∈ lw_tbl := lw_at lw_m7 32 rfl
theorem q1608 : (Jvm.Cond.declares ({ cls := "RoseProverbs$Parser", name := "end", desc := "()V" } : Jvm.MethodName)) ∈ lw_tbl := lw_at lw_m7 36 rfl
theorem q1610 : (Jvm.Cond.instanceMethod ({ cls := "RoseProverbs$Parser", name := "end", desc := "()V" } : Jvm.MethodName)) ∈ lw_all := lw_g (lw_at lw_m7 38 rfl) rfl
theorem q1611 : (Jvm.Cond.code ({ cls := "RoseProverbs$Parser", name := "end", desc := "()V" } : Jvm.MethodName) prog_5_method_12_code (1 : Nat) (Option.none : Option Jvm.ClassFile.FieldType)) ∈ lw_all := lw_g (lw_at lw_m7 39 rfl) rfl
theorem q3569 : (Jvm.Cond.sameMethod "RoseProverbs$Parser" "RoseProverbs$Parser" "at" "(I)I") ∈ lw_all := lw_g (lw_at lw_m15 77 rfl) rfl
theorem q3570 : (Jvm.Cond.sameMethod "RoseProverbs$Parser" "RoseProverbs$Parser" "past" "(III)I") ∈ lw_all := lw_g (lw_at lw_m15 78 rfl) rfl
theorem q3571 : (Jvm.Cond.sameMethod "RoseProverbs$Parser" "RoseProverbs$Parser" "text" "(II)Ljava/lang/String;") ∈ lw_all := lw_g (lw_at lw_m15 79 rfl) rfl
theorem q3573 : (Jvm.Cond.sameMethod "RoseProverbs$Parser" "RoseProverbs$Parser" "expect" "(ZI)V") ∈ lw_all := lw_g (lw_at lw_m15 81 rfl) rfl
theorem q3632 : (Jvm.Cond.castable "RoseProverbs$Parser" "java/lang/Object") ∈ lw_tbl := lw_at lw_m15 140 rfl
/-! RoseProverbs$Setup -/
set_option maxRecDepth 100000
def RX6 : String := "RoseProverbs$Setup"
def TX6 : u_T := fun k => match k with
  | 0 => ("RoseProverbs$Parser", "start", "I", false)
  | 1 => ("RoseProverbs$Parser", "next", "I", false)
  | 2 => ("RoseProverbs$Parser", "token", "I", false)
  | 3 => ("RoseProverbs$Parser", "value", "I", false)
  | 4 => ("RoseProverbs$Parser", "word", "Ljava/lang/String;", false)
  | 5 => ("RoseProverbs$Parser", "this$0", "LRoseProverbs;", true)
  | 6 => ("RoseProverbs$Setup", "made", "LRoseProverbs$Rose;", true)
  | _ => ("RoseProverbs$Setup", "this$0", "LRoseProverbs;", true)
def tyX6 : Nat → FieldType := fun k => match k with
  | 0 => .int
  | 1 => .int
  | 2 => .int
  | 3 => .int
  | 4 => .object "java/lang/String"
  | 5 => .object "RoseProverbs"
  | 6 => .object "RoseProverbs$Rose"
  | _ => .object "RoseProverbs"
abbrev wsX60 : List Cond := u_ws RX6 TX6 8
-- two fields of one name: no nmX6
theorem tyX6_ok : ∀ k, k < 8 → parseFieldDescriptor (TX6 k).2.2.1 = some (tyX6 k) := by decide +kernel
abbrev cX6_init : ByteArray := prog_18_method_1_code
def yX6_init : MethodName := ⟨RX6, "<init>", "(LRoseProverbs;)V"⟩
def dkwX6_init_0 : List UInt8 := [42, 43, 181, 0, 3, 42, 43, 183, 0, 9, 42, 187, 0, 15, 89, 183, 0, 17, 181, 0, 20, 177]
abbrev dktX6_init_0 : List UInt8 := dkwX6_init_0 ++ []
theorem dksX6_init_0 : cX6_init.data.toList.drop 0 = dktX6_init_0 := by decide +kernel
theorem dX6_init_0 : decode cX6_init 0 = .ok (.aload_n 0, 1) := dk_42 (dk_at dksX6_init_0 0 rfl rfl)
theorem dX6_init_1 : decode cX6_init 1 = .ok (.aload_n 1, 1) := dk_43 (dk_at dksX6_init_0 1 rfl rfl)
theorem dX6_init_2 : decode cX6_init 2 = .ok (.putfield 3, 3) := dk_181 0 3 (dk_at dksX6_init_0 2 rfl rfl)
theorem dX6_init_5 : decode cX6_init 5 = .ok (.aload_n 0, 1) := dk_42 (dk_at dksX6_init_0 5 rfl rfl)
theorem dX6_init_6 : decode cX6_init 6 = .ok (.aload_n 1, 1) := dk_43 (dk_at dksX6_init_0 6 rfl rfl)
theorem dX6_init_7 : decode cX6_init 7 = .ok (.invokespecial 9, 3) := dk_183 0 9 (dk_at dksX6_init_0 7 rfl rfl)
theorem dX6_init_10 : decode cX6_init 10 = .ok (.aload_n 0, 1) := dk_42 (dk_at dksX6_init_0 10 rfl rfl)
theorem dX6_init_11 : decode cX6_init 11 = .ok (.new 15, 3) := dk_187 0 15 (dk_at dksX6_init_0 11 rfl rfl)
theorem dX6_init_14 : decode cX6_init 14 = .ok (.dup, 1) := dk_89 (dk_at dksX6_init_0 14 rfl rfl)
theorem dX6_init_15 : decode cX6_init 15 = .ok (.invokespecial 17, 3) := dk_183 0 17 (dk_at dksX6_init_0 15 rfl rfl)
theorem dX6_init_18 : decode cX6_init 18 = .ok (.putfield 20, 3) := dk_181 0 20 (dk_at dksX6_init_0 18 rfl rfl)
theorem dX6_init_21 : decode cX6_init 21 = .ok (.return_, 1) := dk_177 (dk_at dksX6_init_0 21 rfl rfl)
abbrev cX6_read : ByteArray := prog_18_method_4_code
def yX6_read : MethodName := ⟨RX6, "read", "()LRoseProverbs$Rose;"⟩
def dkwX6_read_1 : List UInt8 := [182, 0, 87, 167, 0, 8, 42, 43, 182, 0, 89, 42, 182, 0, 93, 167, 255, 219, 42, 180, 0, 20, 176]
abbrev dktX6_read_1 : List UInt8 := dkwX6_read_1 ++ []
def dkwX6_read_0 : List UInt8 := [42, 182, 0, 73, 154, 0, 36, 42, 182, 0, 76, 76, 43, 18, 80, 182, 0, 81, 153, 0, 10, 42]
abbrev dktX6_read_0 : List UInt8 := dkwX6_read_0 ++ dktX6_read_1
theorem dksX6_read_0 : cX6_read.data.toList.drop 0 = dktX6_read_0 := by decide +kernel
theorem dksX6_read_1 : cX6_read.data.toList.drop 22 = dktX6_read_1 := dk_seg dksX6_read_0 22 rfl rfl
theorem dX6_read_0 : decode cX6_read 0 = .ok (.aload_n 0, 1) := dk_42 (dk_at dksX6_read_0 0 rfl rfl)
theorem dX6_read_1 : decode cX6_read 1 = .ok (.invokevirtual 73, 3) := dk_182 0 73 (dk_at dksX6_read_0 1 rfl rfl)
theorem dX6_read_4 : decode cX6_read 4 = .ok (.ifCond .ne 36, 3) := dk_154 0 36 (dk_at dksX6_read_0 4 rfl rfl)
theorem dX6_read_7 : decode cX6_read 7 = .ok (.aload_n 0, 1) := dk_42 (dk_at dksX6_read_0 7 rfl rfl)
theorem dX6_read_8 : decode cX6_read 8 = .ok (.invokevirtual 76, 3) := dk_182 0 76 (dk_at dksX6_read_0 8 rfl rfl)
theorem dX6_read_11 : decode cX6_read 11 = .ok (.astore_n 1, 1) := dk_76 (dk_at dksX6_read_0 11 rfl rfl)
theorem dX6_read_12 : decode cX6_read 12 = .ok (.aload_n 1, 1) := dk_43 (dk_at dksX6_read_0 12 rfl rfl)
theorem dX6_read_13 : decode cX6_read 13 = .ok (.ldc 80, 2) := dk_18 80 (dk_at dksX6_read_0 13 rfl rfl)
theorem dX6_read_15 : decode cX6_read 15 = .ok (.invokevirtual 81, 3) := dk_182 0 81 (dk_at dksX6_read_0 15 rfl rfl)
theorem dX6_read_18 : decode cX6_read 18 = .ok (.ifCond .eq 10, 3) := dk_153 0 10 (dk_at dksX6_read_0 18 rfl rfl)
theorem dX6_read_21 : decode cX6_read 21 = .ok (.aload_n 0, 1) := dk_42 (dk_at dksX6_read_0 21 rfl rfl)
theorem dX6_read_22 : decode cX6_read 22 = .ok (.invokevirtual 87, 3) := dk_182 0 87 (dk_at dksX6_read_1 0 rfl rfl)
theorem dX6_read_25 : decode cX6_read 25 = .ok (.goto 8, 3) := dk_167 0 8 (dk_at dksX6_read_1 3 rfl rfl)
theorem dX6_read_28 : decode cX6_read 28 = .ok (.aload_n 0, 1) := dk_42 (dk_at dksX6_read_1 6 rfl rfl)
theorem dX6_read_29 : decode cX6_read 29 = .ok (.aload_n 1, 1) := dk_43 (dk_at dksX6_read_1 7 rfl rfl)
theorem dX6_read_30 : decode cX6_read 30 = .ok (.invokevirtual 89, 3) := dk_182 0 89 (dk_at dksX6_read_1 8 rfl rfl)
theorem dX6_read_33 : decode cX6_read 33 = .ok (.aload_n 0, 1) := dk_42 (dk_at dksX6_read_1 11 rfl rfl)
theorem dX6_read_34 : decode cX6_read 34 = .ok (.invokevirtual 93, 3) := dk_182 0 93 (dk_at dksX6_read_1 12 rfl rfl)
theorem dX6_read_37 : decode cX6_read 37 = .ok (.goto (-37), 3) := dk_167 255 219 (dk_at dksX6_read_1 15 rfl rfl)
theorem dX6_read_40 : decode cX6_read 40 = .ok (.aload_n 0, 1) := dk_42 (dk_at dksX6_read_1 18 rfl rfl)
theorem dX6_read_41 : decode cX6_read 41 = .ok (.getfield 20, 3) := dk_180 0 20 (dk_at dksX6_read_1 19 rfl rfl)
theorem dX6_read_44 : decode cX6_read 44 = .ok (.areturn, 1) := dk_176 (dk_at dksX6_read_1 22 rfl rfl)
abbrev cX6_proverbs : ByteArray := prog_18_method_2_code
def yX6_proverbs : MethodName := ⟨RX6, "proverbs", "()V"⟩
def dkwX6_proverbs_3 : List UInt8 := [182, 0, 53, 61, 177]
abbrev dktX6_proverbs_3 : List UInt8 := dkwX6_proverbs_3 ++ []
def dkwX6_proverbs_2 : List UInt8 := [180, 0, 20, 43, 182, 0, 49, 154, 0, 7, 4, 167, 0, 4, 3, 7, 182, 0, 34, 42, 180, 0, 20, 43]
abbrev dktX6_proverbs_2 : List UInt8 := dkwX6_proverbs_2 ++ dktX6_proverbs_3
def dkwX6_proverbs_1 : List UInt8 := [182, 0, 34, 42, 182, 0, 38, 42, 182, 0, 41, 76, 42, 42, 182, 0, 45, 4, 182, 0, 34, 42, 42]
abbrev dktX6_proverbs_1 : List UInt8 := dkwX6_proverbs_1 ++ dktX6_proverbs_2
def dkwX6_proverbs_0 : List UInt8 := [42, 42, 180, 0, 20, 180, 0, 24, 185, 0, 28, 1, 0, 16, 24, 162, 0, 7, 4, 167, 0, 4, 3, 6]
abbrev dktX6_proverbs_0 : List UInt8 := dkwX6_proverbs_0 ++ dktX6_proverbs_1
theorem dksX6_proverbs_0 : cX6_proverbs.data.toList.drop 0 = dktX6_proverbs_0 := by decide +kernel
theorem dksX6_proverbs_1 : cX6_proverbs.data.toList.drop 24 = dktX6_proverbs_1 := dk_seg dksX6_proverbs_0 24 rfl rfl
theorem dksX6_proverbs_2 : cX6_proverbs.data.toList.drop 47 = dktX6_proverbs_2 := dk_seg dksX6_proverbs_1 23 rfl rfl
theorem dksX6_proverbs_3 : cX6_proverbs.data.toList.drop 71 = dktX6_proverbs_3 := dk_seg dksX6_proverbs_2 24 rfl rfl
theorem dX6_proverbs_0 : decode cX6_proverbs 0 = .ok (.aload_n 0, 1) := dk_42 (dk_at dksX6_proverbs_0 0 rfl rfl)
theorem dX6_proverbs_1 : decode cX6_proverbs 1 = .ok (.aload_n 0, 1) := dk_42 (dk_at dksX6_proverbs_0 1 rfl rfl)
theorem dX6_proverbs_2 : decode cX6_proverbs 2 = .ok (.getfield 20, 3) := dk_180 0 20 (dk_at dksX6_proverbs_0 2 rfl rfl)
theorem dX6_proverbs_5 : decode cX6_proverbs 5 = .ok (.getfield 24, 3) := dk_180 0 24 (dk_at dksX6_proverbs_0 5 rfl rfl)
theorem dX6_proverbs_8 : decode cX6_proverbs 8 = .ok (.invokeinterface 28 1, 5) := by decide +kernel
theorem dX6_proverbs_13 : decode cX6_proverbs 13 = .ok (.bipush 24, 2) := dk_16 24 (dk_at dksX6_proverbs_0 13 rfl rfl)
theorem dX6_proverbs_15 : decode cX6_proverbs 15 = .ok (.if_icmp .ge 7, 3) := dk_162 0 7 (dk_at dksX6_proverbs_0 15 rfl rfl)
theorem dX6_proverbs_18 : decode cX6_proverbs 18 = .ok (.iconst 1, 1) := dk_4 (dk_at dksX6_proverbs_0 18 rfl rfl)
theorem dX6_proverbs_19 : decode cX6_proverbs 19 = .ok (.goto 4, 3) := dk_167 0 4 (dk_at dksX6_proverbs_0 19 rfl rfl)
theorem dX6_proverbs_22 : decode cX6_proverbs 22 = .ok (.iconst 0, 1) := dk_3 (dk_at dksX6_proverbs_0 22 rfl rfl)
theorem dX6_proverbs_23 : decode cX6_proverbs 23 = .ok (.iconst 3, 1) := dk_6 (dk_at dksX6_proverbs_0 23 rfl rfl)
theorem dX6_proverbs_24 : decode cX6_proverbs 24 = .ok (.invokevirtual 34, 3) := dk_182 0 34 (dk_at dksX6_proverbs_1 0 rfl rfl)
theorem dX6_proverbs_27 : decode cX6_proverbs 27 = .ok (.aload_n 0, 1) := dk_42 (dk_at dksX6_proverbs_1 3 rfl rfl)
theorem dX6_proverbs_28 : decode cX6_proverbs 28 = .ok (.invokevirtual 38, 3) := dk_182 0 38 (dk_at dksX6_proverbs_1 4 rfl rfl)
theorem dX6_proverbs_31 : decode cX6_proverbs 31 = .ok (.aload_n 0, 1) := dk_42 (dk_at dksX6_proverbs_1 7 rfl rfl)
theorem dX6_proverbs_32 : decode cX6_proverbs 32 = .ok (.invokevirtual 41, 3) := dk_182 0 41 (dk_at dksX6_proverbs_1 8 rfl rfl)
theorem dX6_proverbs_35 : decode cX6_proverbs 35 = .ok (.astore_n 1, 1) := dk_76 (dk_at dksX6_proverbs_1 11 rfl rfl)
theorem dX6_proverbs_36 : decode cX6_proverbs 36 = .ok (.aload_n 0, 1) := dk_42 (dk_at dksX6_proverbs_1 12 rfl rfl)
theorem dX6_proverbs_37 : decode cX6_proverbs 37 = .ok (.aload_n 0, 1) := dk_42 (dk_at dksX6_proverbs_1 13 rfl rfl)
theorem dX6_proverbs_38 : decode cX6_proverbs 38 = .ok (.invokevirtual 45, 3) := dk_182 0 45 (dk_at dksX6_proverbs_1 14 rfl rfl)
theorem dX6_proverbs_41 : decode cX6_proverbs 41 = .ok (.iconst 1, 1) := dk_4 (dk_at dksX6_proverbs_1 17 rfl rfl)
theorem dX6_proverbs_42 : decode cX6_proverbs 42 = .ok (.invokevirtual 34, 3) := dk_182 0 34 (dk_at dksX6_proverbs_1 18 rfl rfl)
theorem dX6_proverbs_45 : decode cX6_proverbs 45 = .ok (.aload_n 0, 1) := dk_42 (dk_at dksX6_proverbs_1 21 rfl rfl)
theorem dX6_proverbs_46 : decode cX6_proverbs 46 = .ok (.aload_n 0, 1) := dk_42 (dk_at dksX6_proverbs_1 22 rfl rfl)
theorem dX6_proverbs_47 : decode cX6_proverbs 47 = .ok (.getfield 20, 3) := dk_180 0 20 (dk_at dksX6_proverbs_2 0 rfl rfl)
theorem dX6_proverbs_50 : decode cX6_proverbs 50 = .ok (.aload_n 1, 1) := dk_43 (dk_at dksX6_proverbs_2 3 rfl rfl)
theorem dX6_proverbs_51 : decode cX6_proverbs 51 = .ok (.invokevirtual 49, 3) := dk_182 0 49 (dk_at dksX6_proverbs_2 4 rfl rfl)
theorem dX6_proverbs_54 : decode cX6_proverbs 54 = .ok (.ifCond .ne 7, 3) := dk_154 0 7 (dk_at dksX6_proverbs_2 7 rfl rfl)
theorem dX6_proverbs_57 : decode cX6_proverbs 57 = .ok (.iconst 1, 1) := dk_4 (dk_at dksX6_proverbs_2 10 rfl rfl)
theorem dX6_proverbs_58 : decode cX6_proverbs 58 = .ok (.goto 4, 3) := dk_167 0 4 (dk_at dksX6_proverbs_2 11 rfl rfl)
theorem dX6_proverbs_61 : decode cX6_proverbs 61 = .ok (.iconst 0, 1) := dk_3 (dk_at dksX6_proverbs_2 14 rfl rfl)
theorem dX6_proverbs_62 : decode cX6_proverbs 62 = .ok (.iconst 4, 1) := dk_7 (dk_at dksX6_proverbs_2 15 rfl rfl)
theorem dX6_proverbs_63 : decode cX6_proverbs 63 = .ok (.invokevirtual 34, 3) := dk_182 0 34 (dk_at dksX6_proverbs_2 16 rfl rfl)
theorem dX6_proverbs_66 : decode cX6_proverbs 66 = .ok (.aload_n 0, 1) := dk_42 (dk_at dksX6_proverbs_2 19 rfl rfl)
theorem dX6_proverbs_67 : decode cX6_proverbs 67 = .ok (.getfield 20, 3) := dk_180 0 20 (dk_at dksX6_proverbs_2 20 rfl rfl)
theorem dX6_proverbs_70 : decode cX6_proverbs 70 = .ok (.aload_n 1, 1) := dk_43 (dk_at dksX6_proverbs_2 23 rfl rfl)
theorem dX6_proverbs_71 : decode cX6_proverbs 71 = .ok (.invokevirtual 53, 3) := dk_182 0 53 (dk_at dksX6_proverbs_3 0 rfl rfl)
theorem dX6_proverbs_74 : decode cX6_proverbs 74 = .ok (.istore_n 2, 1) := dk_61 (dk_at dksX6_proverbs_3 3 rfl rfl)
theorem dX6_proverbs_75 : decode cX6_proverbs 75 = .ok (.return_, 1) := dk_177 (dk_at dksX6_proverbs_3 4 rfl rfl)
abbrev cX6_setting : ByteArray := prog_18_method_3_code
def yX6_setting : MethodName := ⟨RX6, "setting", "(Ljava/lang/String;)V"⟩
def dkwX6_setting_1 : List UInt8 := [42, 180, 0, 20, 180, 0, 61, 28, 42, 3, 28, 184, 0, 65, 182, 0, 69, 79, 177]
abbrev dktX6_setting_1 : List UInt8 := dkwX6_setting_1 ++ []
def dkwX6_setting_0 : List UInt8 := [43, 184, 0, 57, 61, 42, 28, 2, 159, 0, 7, 4, 167, 0, 4, 3, 4, 182, 0, 34, 42, 182, 0, 38]
abbrev dktX6_setting_0 : List UInt8 := dkwX6_setting_0 ++ dktX6_setting_1
theorem dksX6_setting_0 : cX6_setting.data.toList.drop 0 = dktX6_setting_0 := by decide +kernel
theorem dksX6_setting_1 : cX6_setting.data.toList.drop 24 = dktX6_setting_1 := dk_seg dksX6_setting_0 24 rfl rfl
theorem dX6_setting_0 : decode cX6_setting 0 = .ok (.aload_n 1, 1) := dk_43 (dk_at dksX6_setting_0 0 rfl rfl)
theorem dX6_setting_1 : decode cX6_setting 1 = .ok (.invokestatic 57, 3) := dk_184 0 57 (dk_at dksX6_setting_0 1 rfl rfl)
theorem dX6_setting_4 : decode cX6_setting 4 = .ok (.istore_n 2, 1) := dk_61 (dk_at dksX6_setting_0 4 rfl rfl)
theorem dX6_setting_5 : decode cX6_setting 5 = .ok (.aload_n 0, 1) := dk_42 (dk_at dksX6_setting_0 5 rfl rfl)
theorem dX6_setting_6 : decode cX6_setting 6 = .ok (.iload_n 2, 1) := dk_28 (dk_at dksX6_setting_0 6 rfl rfl)
theorem dX6_setting_7 : decode cX6_setting 7 = .ok (.iconst (-1), 1) := dk_2 (dk_at dksX6_setting_0 7 rfl rfl)
theorem dX6_setting_8 : decode cX6_setting 8 = .ok (.if_icmp .eq 7, 3) := dk_159 0 7 (dk_at dksX6_setting_0 8 rfl rfl)
theorem dX6_setting_11 : decode cX6_setting 11 = .ok (.iconst 1, 1) := dk_4 (dk_at dksX6_setting_0 11 rfl rfl)
theorem dX6_setting_12 : decode cX6_setting 12 = .ok (.goto 4, 3) := dk_167 0 4 (dk_at dksX6_setting_0 12 rfl rfl)
theorem dX6_setting_15 : decode cX6_setting 15 = .ok (.iconst 0, 1) := dk_3 (dk_at dksX6_setting_0 15 rfl rfl)
theorem dX6_setting_16 : decode cX6_setting 16 = .ok (.iconst 1, 1) := dk_4 (dk_at dksX6_setting_0 16 rfl rfl)
theorem dX6_setting_17 : decode cX6_setting 17 = .ok (.invokevirtual 34, 3) := dk_182 0 34 (dk_at dksX6_setting_0 17 rfl rfl)
theorem dX6_setting_20 : decode cX6_setting 20 = .ok (.aload_n 0, 1) := dk_42 (dk_at dksX6_setting_0 20 rfl rfl)
theorem dX6_setting_21 : decode cX6_setting 21 = .ok (.invokevirtual 38, 3) := dk_182 0 38 (dk_at dksX6_setting_0 21 rfl rfl)
theorem dX6_setting_24 : decode cX6_setting 24 = .ok (.aload_n 0, 1) := dk_42 (dk_at dksX6_setting_1 0 rfl rfl)
theorem dX6_setting_25 : decode cX6_setting 25 = .ok (.getfield 20, 3) := dk_180 0 20 (dk_at dksX6_setting_1 1 rfl rfl)
theorem dX6_setting_28 : decode cX6_setting 28 = .ok (.getfield 61, 3) := dk_180 0 61 (dk_at dksX6_setting_1 4 rfl rfl)
theorem dX6_setting_31 : decode cX6_setting 31 = .ok (.iload_n 2, 1) := dk_28 (dk_at dksX6_setting_1 7 rfl rfl)
theorem dX6_setting_32 : decode cX6_setting 32 = .ok (.aload_n 0, 1) := dk_42 (dk_at dksX6_setting_1 8 rfl rfl)
theorem dX6_setting_33 : decode cX6_setting 33 = .ok (.iconst 0, 1) := dk_3 (dk_at dksX6_setting_1 9 rfl rfl)
theorem dX6_setting_34 : decode cX6_setting 34 = .ok (.iload_n 2, 1) := dk_28 (dk_at dksX6_setting_1 10 rfl rfl)
theorem dX6_setting_35 : decode cX6_setting 35 = .ok (.invokestatic 65, 3) := dk_184 0 65 (dk_at dksX6_setting_1 11 rfl rfl)
theorem dX6_setting_38 : decode cX6_setting 38 = .ok (.invokevirtual 69, 3) := dk_182 0 69 (dk_at dksX6_setting_1 14 rfl rfl)
theorem dX6_setting_41 : decode cX6_setting 41 = .ok (.iastore, 1) := dk_79 (dk_at dksX6_setting_1 17 rfl rfl)
theorem dX6_setting_42 : decode cX6_setting 42 = .ok (.return_, 1) := dk_177 (dk_at dksX6_setting_1 18 rfl rfl)
theorem q166 : (Jvm.Cond.initialized "RoseProverbs$Setup") ∈ lw_all := lw_g (lw_at lw_m1 34 rfl) rfl
theorem q604 : (Jvm.Cond.fieldLinkNest "RoseProverbs$Setup" (24 : Nat) "RoseProverbs$Rose" "proverbs" "Ljava/util/List;" "RoseProverbs") ∈ lw_tbl := lw_at lw_m2 232 rfl
theorem q612 : (Jvm.Cond.fieldLinkNest "RoseProverbs$Setup" (61 : Nat) "RoseProverbs$Rose" "settings" "[I" "RoseProverbs") ∈ lw_tbl := lw_at lw_m3 0 rfl
theorem q789 : (Jvm.Cond.selects "RoseProverbs$Setup" ({ cls := "java/lang/Object", name := "getClass", desc := "()Ljava/lang/Class;" } : Jvm.MethodName) ({ cls := "java/lang/Object", name := "getClass", desc := "()Ljava/lang/Class;" } : Jvm.MethodName)) ∈ lw_all := lw_g (lw_at lw_m3 177 rfl) rfl
theorem q1258 : (Jvm.Cond.instantiable "RoseProverbs$Setup" (8 : Nat)) ∈ lw_all := lw_g (lw_at lw_m5 166 rfl) rfl
theorem q1260 : (Jvm.Cond.instanceMethod ({ cls := "RoseProverbs$Setup", name := "<init>", desc := "(LRoseProverbs;)V" } : Jvm.MethodName)) ∈ lw_all := lw_g (lw_at lw_m5 168 rfl) rfl
theorem q1261 : (Jvm.Cond.code ({ cls := "RoseProverbs$Setup", name := "<init>", desc := "(LRoseProverbs;)V" } : Jvm.MethodName) prog_18_method_1_code (2 : Nat) (Option.none : Option Jvm.ClassFile.FieldType)) ∈ lw_all := lw_g (lw_at lw_m5 169 rfl) rfl
theorem q1262 : (Jvm.Cond.methodLink "RoseProverbs$Setup" (9 : Nat) ({ cls := "RoseProverbs$Parser", name := "<init>", desc := "(LRoseProverbs;)V" } : Jvm.MethodName)) ∈ lw_all := lw_g (lw_at lw_m5 170 rfl) rfl
theorem q1271 : (Jvm.Cond.selects "RoseProverbs$Setup" ({ cls := "RoseProverbs$Parser", name := "advance", desc := "()V" } : Jvm.MethodName) ({ cls := "RoseProverbs$Parser", name := "advance", desc := "()V" } : Jvm.MethodName)) ∈ lw_all := lw_g (lw_at lw_m5 179 rfl) rfl
theorem q1397 : (Jvm.Cond.classLink "RoseProverbs$Setup" (15 : Nat) "RoseProverbs$Rose") ∈ lw_all := lw_g (lw_at lw_m6 65 rfl) rfl
theorem q1398 : (Jvm.Cond.methodLinkNest "RoseProverbs$Setup" (17 : Nat) ({ cls := "RoseProverbs$Rose", name := "<init>", desc := "()V" } : Jvm.MethodName) "RoseProverbs") ∈ lw_tbl := lw_at lw_m6 66 rfl
theorem q1399 : (Jvm.Cond.fieldLink "RoseProverbs$Setup" (20 : Nat) "RoseProverbs$Setup" "made" "LRoseProverbs$Rose;") ∈ lw_all := lw_g (lw_at lw_m6 67 rfl) rfl
theorem q1400 : (Jvm.Cond.fieldLink "RoseProverbs$Setup" (3 : Nat) "RoseProverbs$Setup" "this$0" "LRoseProverbs;") ∈ lw_all := lw_g (lw_at lw_m6 68 rfl) rfl
theorem q1407 : (Jvm.Cond.laysFinal "RoseProverbs$Setup" "RoseProverbs$Setup" "made" "LRoseProverbs$Rose;") ∈ lw_all := lw_g (lw_at lw_m6 75 rfl) rfl
theorem q1408 : (Jvm.Cond.soleField "RoseProverbs$Setup" "made") ∈ lw_all := lw_g (lw_at lw_m6 76 rfl) rfl
theorem q1409 : (Jvm.Cond.laysFinal "RoseProverbs$Setup" "RoseProverbs$Setup" "this$0" "LRoseProverbs;") ∈ lw_all := lw_g (lw_at lw_m6 77 rfl) rfl
theorem q1410 : (Jvm.Cond.soleField "RoseProverbs$Setup" "this$0") ∈ lw_all := lw_g (lw_at lw_m6 78 rfl) rfl
theorem q1411 : (Jvm.Cond.lays "RoseProverbs$Setup" "RoseProverbs$Parser" "start" "I") ∈ lw_all := lw_g (lw_at lw_m6 79 rfl) rfl
theorem q1413 : (Jvm.Cond.lays "RoseProverbs$Setup" "RoseProverbs$Parser" "next" "I") ∈ lw_all := lw_g (lw_at lw_m6 81 rfl) rfl
theorem q1415 : (Jvm.Cond.lays "RoseProverbs$Setup" "RoseProverbs$Parser" "token" "I") ∈ lw_all := lw_g (lw_at lw_m6 83 rfl) rfl
theorem q1417 : (Jvm.Cond.lays "RoseProverbs$Setup" "RoseProverbs$Parser" "value" "I") ∈ lw_all := lw_g (lw_at lw_m6 85 rfl) rfl
theorem q1419 : (Jvm.Cond.lays "RoseProverbs$Setup" "RoseProverbs$Parser" "word" "Ljava/lang/String;") ∈ lw_all := lw_g (lw_at lw_m6 87 rfl) rfl
theorem q1421 : (Jvm.Cond.laysFinal "RoseProverbs$Setup" "RoseProverbs$Parser" "this$0" "LRoseProverbs;") ∈ lw_all := lw_g (lw_at lw_m6 89 rfl) rfl
theorem q1423 : (Jvm.Cond.superclass "RoseProverbs$Setup" "RoseProverbs$Parser") ∈ lw_all := lw_g (lw_at lw_m6 91 rfl) rfl
theorem q1425 : (Jvm.Cond.instanceMethod ({ cls := "RoseProverbs$Setup", name := "read", desc := "()LRoseProverbs$Rose;" } : Jvm.MethodName)) ∈ lw_all := lw_g (lw_at lw_m6 93 rfl) rfl
theorem q1426 : (Jvm.Cond.selects "RoseProverbs$Setup" ({ cls := "RoseProverbs$Setup", name := "read", desc := "()LRoseProverbs$Rose;" } : Jvm.MethodName) ({ cls := "RoseProverbs$Setup", name := "read", desc := "()LRoseProverbs$Rose;" } : Jvm.MethodName)) ∈ lw_all := lw_g (lw_at lw_m6 94 rfl) rfl
theorem q1427 : (Jvm.Cond.code ({ cls := "RoseProverbs$Setup", name := "read", desc := "()LRoseProverbs$Rose;" } : Jvm.MethodName) prog_18_method_4_code (2 : Nat) (Option.some (Jvm.ClassFile.FieldType.object "RoseProverbs$Rose"))) ∈ lw_all := lw_g (lw_at lw_m6 95 rfl) rfl
theorem q1428 : (Jvm.Cond.methodLink "RoseProverbs$Setup" (73 : Nat) ({ cls := "RoseProverbs$Setup", name := "isOver", desc := "()Z" } : Jvm.MethodName)) ∈ lw_all := lw_g (lw_at lw_m6 96 rfl) rfl
theorem q1429 : (Jvm.Cond.sameMethod "RoseProverbs$Setup" "RoseProverbs$Parser" "isOver" "()Z") ∈ lw_all := lw_g (lw_at lw_m6 97 rfl) rfl
theorem q1431 : (Jvm.Cond.selects "RoseProverbs$Setup" ({ cls := "RoseProverbs$Setup", name := "isOver", desc := "()Z" } : Jvm.MethodName) ({ cls := "RoseProverbs$Parser", name := "isOver", desc := "()Z" } : Jvm.MethodName)) ∈ lw_all := lw_g (lw_at lw_m6 99 rfl) rfl
theorem q1434 : (Jvm.Cond.methodLink "RoseProverbs$Setup" (76 : Nat) ({ cls := "RoseProverbs$Setup", name := "word", desc := "()Ljava/lang/String;" } : Jvm.MethodName)) ∈ lw_all := lw_g (lw_at lw_m6 102 rfl) rfl
theorem q1435 : (Jvm.Cond.sameMethod "RoseProverbs$Setup" "RoseProverbs$Parser" "word" "()Ljava/lang/String;") ∈ lw_all := lw_g (lw_at lw_m6 103 rfl) rfl
theorem q1437 : (Jvm.Cond.selects "RoseProverbs$Setup" ({ cls := "RoseProverbs$Setup", name := "word", desc := "()Ljava/lang/String;" } : Jvm.MethodName) ({ cls := "RoseProverbs$Parser", name := "word", desc := "()Ljava/lang/String;" } : Jvm.MethodName)) ∈ lw_all := lw_g (lw_at lw_m6 105 rfl) rfl
theorem q1440 : (Jvm.Cond.stringRef "RoseProverbs$Setup" (80 : Nat) "proverb") ∈ lw_tbl := lw_at lw_m6 108 rfl
theorem q1441 : (Jvm.Cond.methodLink "RoseProverbs$Setup" (81 : Nat) ({ cls := "java/lang/String", name := "equals", desc := "(Ljava/lang/Object;)Z" } : Jvm.MethodName)) ∈ lw_all := lw_g (lw_at lw_m6 109 rfl) rfl
theorem q1448 : (Jvm.Cond.methodLink "RoseProverbs$Setup" (87 : Nat) ({ cls := "RoseProverbs$Setup", name := "proverbs", desc := "()V" } : Jvm.MethodName)) ∈ lw_all := lw_g (lw_at lw_m6 116 rfl) rfl
theorem q1449 : (Jvm.Cond.privateMethod ({ cls := "RoseProverbs$Setup", name := "proverbs", desc := "()V" } : Jvm.MethodName)) ∈ lw_tbl := lw_at lw_m6 117 rfl
theorem q1450 : (Jvm.Cond.instanceMethod ({ cls := "RoseProverbs$Setup", name := "proverbs", desc := "()V" } : Jvm.MethodName)) ∈ lw_all := lw_g (lw_at lw_m6 118 rfl) rfl
theorem q1451 : (Jvm.Cond.code ({ cls := "RoseProverbs$Setup", name := "proverbs", desc := "()V" } : Jvm.MethodName) prog_18_method_2_code (3 : Nat) (Option.none : Option Jvm.ClassFile.FieldType)) ∈ lw_all := lw_g (lw_at lw_m6 119 rfl) rfl
theorem q1452 : (Jvm.Cond.interfaceEntry "RoseProverbs$Setup" (28 : Nat)) ∈ lw_tbl := lw_at lw_m6 120 rfl
theorem q1453 : (Jvm.Cond.methodLink "RoseProverbs$Setup" (28 : Nat) ({ cls := "java/util/List", name := "size", desc := "()I" } : Jvm.MethodName)) ∈ lw_all := lw_g (lw_at lw_m6 121 rfl) rfl
theorem q1454 : (Jvm.Cond.methodLink "RoseProverbs$Setup" (34 : Nat) ({ cls := "RoseProverbs$Setup", name := "expect", desc := "(ZI)V" } : Jvm.MethodName)) ∈ lw_all := lw_g (lw_at lw_m6 122 rfl) rfl
theorem q1455 : (Jvm.Cond.sameMethod "RoseProverbs$Setup" "RoseProverbs$Parser" "expect" "(ZI)V") ∈ lw_all := lw_g (lw_at lw_m6 123 rfl) rfl
theorem q1457 : (Jvm.Cond.selects "RoseProverbs$Setup" ({ cls := "RoseProverbs$Setup", name := "expect", desc := "(ZI)V" } : Jvm.MethodName) ({ cls := "RoseProverbs$Parser", name := "expect", desc := "(ZI)V" } : Jvm.MethodName)) ∈ lw_all := lw_g (lw_at lw_m6 125 rfl) rfl
theorem q1488 : (Jvm.Cond.methodLink "RoseProverbs$Setup" (38 : Nat) ({ cls := "RoseProverbs$Setup", name := "advance", desc := "()V" } : Jvm.MethodName)) ∈ lw_all := lw_g (lw_at lw_m6 156 rfl) rfl
theorem q1489 : (Jvm.Cond.sameMethod "RoseProverbs$Setup" "RoseProverbs$Parser" "advance" "()V") ∈ lw_all := lw_g (lw_at lw_m6 157 rfl) rfl
theorem q1491 : (Jvm.Cond.selects "RoseProverbs$Setup" ({ cls := "RoseProverbs$Setup", name := "advance", desc := "()V" } : Jvm.MethodName) ({ cls := "RoseProverbs$Parser", name := "advance", desc := "()V" } : Jvm.MethodName)) ∈ lw_all := lw_g (lw_at lw_m6 159 rfl) rfl
theorem q1492 : (Jvm.Cond.methodLink "RoseProverbs$Setup" (41 : Nat) ({ cls := "RoseProverbs$Setup", name := "proverb", desc := "()[I" } : Jvm.MethodName)) ∈ lw_all := lw_g (lw_at lw_m6 160 rfl) rfl
theorem q1493 : (Jvm.Cond.sameMethod "RoseProverbs$Setup" "RoseProverbs$Parser" "proverb" "()[I") ∈ lw_all := lw_g (lw_at lw_m6 161 rfl) rfl
theorem q1495 : (Jvm.Cond.selects "RoseProverbs$Setup" ({ cls := "RoseProverbs$Setup", name := "proverb", desc := "()[I" } : Jvm.MethodName) ({ cls := "RoseProverbs$Parser", name := "proverb", desc := "()[I" } : Jvm.MethodName)) ∈ lw_all := lw_g (lw_at lw_m6 163 rfl) rfl
theorem q1502 : (Jvm.Cond.selects "RoseProverbs$Setup" ({ cls := "RoseProverbs$Parser", name := "number", desc := "(II)I" } : Jvm.MethodName) ({ cls := "RoseProverbs$Parser", name := "number", desc := "(II)I" } : Jvm.MethodName)) ∈ lw_all := lw_g (lw_at lw_m6 170 rfl) rfl
theorem q1505 : (Jvm.Cond.methodLink "RoseProverbs$Setup" (45 : Nat) ({ cls := "RoseProverbs$Setup", name := "isSemicolon", desc := "()Z" } : Jvm.MethodName)) ∈ lw_all := lw_g (lw_at lw_m6 173 rfl) rfl
theorem q1506 : (Jvm.Cond.sameMethod "RoseProverbs$Setup" "RoseProverbs$Parser" "isSemicolon" "()Z") ∈ lw_all := lw_g (lw_at lw_m6 174 rfl) rfl
theorem q1508 : (Jvm.Cond.selects "RoseProverbs$Setup" ({ cls := "RoseProverbs$Setup", name := "isSemicolon", desc := "()Z" } : Jvm.MethodName) ({ cls := "RoseProverbs$Parser", name := "isSemicolon", desc := "()Z" } : Jvm.MethodName)) ∈ lw_all := lw_g (lw_at lw_m6 176 rfl) rfl
theorem q1511 : (Jvm.Cond.methodLink "RoseProverbs$Setup" (49 : Nat) ({ cls := "RoseProverbs$Rose", name := "isTold", desc := "([I)Z" } : Jvm.MethodName)) ∈ lw_all := lw_g (lw_at lw_m6 179 rfl) rfl
theorem q1530 : (Jvm.Cond.methodLink "RoseProverbs$Setup" (53 : Nat) ({ cls := "RoseProverbs$Rose", name := "comes", desc := "([I)I" } : Jvm.MethodName)) ∈ lw_all := lw_g (lw_at lw_m6 198 rfl) rfl
theorem q1531 : (Jvm.Cond.methodLink "RoseProverbs$Setup" (89 : Nat) ({ cls := "RoseProverbs$Setup", name := "setting", desc := "(Ljava/lang/String;)V" } : Jvm.MethodName)) ∈ lw_all := lw_g (lw_at lw_m6 199 rfl) rfl
theorem q1532 : (Jvm.Cond.privateMethod ({ cls := "RoseProverbs$Setup", name := "setting", desc := "(Ljava/lang/String;)V" } : Jvm.MethodName)) ∈ lw_tbl := lw_at lw_m6 200 rfl
theorem q1533 : (Jvm.Cond.instanceMethod ({ cls := "RoseProverbs$Setup", name := "setting", desc := "(Ljava/lang/String;)V" } : Jvm.MethodName)) ∈ lw_all := lw_g (lw_at lw_m6 201 rfl) rfl
theorem q1534 : (Jvm.Cond.code ({ cls := "RoseProverbs$Setup", name := "setting", desc := "(Ljava/lang/String;)V" } : Jvm.MethodName) prog_18_method_3_code (3 : Nat) (Option.none : Option Jvm.ClassFile.FieldType)) ∈ lw_all := lw_g (lw_at lw_m6 202 rfl) rfl
theorem q1535 : (Jvm.Cond.methodLinkNest "RoseProverbs$Setup" (57 : Nat) ({ cls := "RoseProverbs", name := "settingOf", desc := "(Ljava/lang/String;)I" } : Jvm.MethodName) "RoseProverbs") ∈ lw_tbl := lw_at lw_m6 203 rfl
theorem q1599 : (Jvm.Cond.methodLinkNest "RoseProverbs$Setup" (65 : Nat) ({ cls := "RoseProverbs", name := "bound", desc := "(I)I" } : Jvm.MethodName) "RoseProverbs") ∈ lw_tbl := lw_at lw_m7 27 rfl
theorem q1602 : (Jvm.Cond.methodLink "RoseProverbs$Setup" (69 : Nat) ({ cls := "RoseProverbs$Setup", name := "number", desc := "(II)I" } : Jvm.MethodName)) ∈ lw_all := lw_g (lw_at lw_m7 30 rfl) rfl
theorem q1603 : (Jvm.Cond.sameMethod "RoseProverbs$Setup" "RoseProverbs$Parser" "number" "(II)I") ∈ lw_all := lw_g (lw_at lw_m7 31 rfl) rfl
theorem q1605 : (Jvm.Cond.selects "RoseProverbs$Setup" ({ cls := "RoseProverbs$Setup", name := "number", desc := "(II)I" } : Jvm.MethodName) ({ cls := "RoseProverbs$Parser", name := "number", desc := "(II)I" } : Jvm.MethodName)) ∈ lw_all := lw_g (lw_at lw_m7 33 rfl) rfl
theorem q1606 : (Jvm.Cond.methodLink "RoseProverbs$Setup" (93 : Nat) ({ cls := "RoseProverbs$Setup", name := "end", desc := "()V" } : Jvm.MethodName)) ∈ lw_all := lw_g (lw_at lw_m7 34 rfl) rfl
theorem q1607 : (Jvm.Cond.sameMethod "RoseProverbs$Setup" "RoseProverbs$Parser" "end" "()V") ∈ lw_all := lw_g (lw_at lw_m7 35 rfl) rfl
theorem q1609 : (Jvm.Cond.selects "RoseProverbs$Setup" ({ cls := "RoseProverbs$Setup", name := "end", desc := "()V" } : Jvm.MethodName) ({ cls := "RoseProverbs$Parser", name := "end", desc := "()V" } : Jvm.MethodName)) ∈ lw_all := lw_g (lw_at lw_m7 37 rfl) rfl
theorem q3575 : (Jvm.Cond.selects "RoseProverbs$Setup" ({ cls := "RoseProverbs$Parser", name := "expect", desc := "(ZI)V" } : Jvm.MethodName) ({ cls := "RoseProverbs$Parser", name := "expect", desc := "(ZI)V" } : Jvm.MethodName)) ∈ lw_all := lw_g (lw_at lw_m15 83 rfl) rfl
theorem q3603 : (Jvm.Cond.castable "RoseProverbs$Setup" "java/lang/Object") ∈ lw_tbl := lw_at lw_m15 111 rfl
theorem in_X6 : ∀ w ∈ wsX60, w ∈ lw_all := lw_in wsX60 [1411, 1413, 1415, 1417, 1419, 1421, 1407, 1409] (by decide +kernel) (by decide +kernel)
/-! RoseProverbs$ParseException -/
set_option maxRecDepth 100000
def RX7 : String := "RoseProverbs$ParseException"
def TX7 : u_T := fun k => match k with
  | 0 => ("java/lang/Throwable", "cause", "Ljava/lang/Throwable;", false)
  | 1 => ("java/lang/Throwable", "stackTrace", "[Ljava/lang/StackTraceElement;", false)
  | 2 => ("java/lang/Throwable", "suppressedExceptions", "Ljava/util/List;", false)
  | 3 => ("java/lang/Throwable", "detailMessage", "Ljava/lang/String;", false)
  | 4 => ("java/lang/Throwable", "backtrace", "Ljava/lang/Object;", false)
  | 5 => ("java/lang/Throwable", "depth", "I", false)
  | 6 => ("RoseProverbs$ParseException", "code", "I", true)
  | _ => ("RoseProverbs$ParseException", "offset", "I", true)
def tyX7 : Nat → FieldType := fun k => match k with
  | 0 => .object "java/lang/Throwable"
  | 1 => .array (.object "java/lang/StackTraceElement")
  | 2 => .object "java/util/List"
  | 3 => .object "java/lang/String"
  | 4 => .object "java/lang/Object"
  | 5 => .int
  | 6 => .int
  | _ => .int
abbrev wsX70 : List Cond := u_ws RX7 TX7 8
theorem nmX7 : ∀ a, a < 8 → ∀ b, b < 8 → a ≠ b → (TX7 a).2.1 ≠ (TX7 b).2.1 := by decide +kernel
theorem tyX7_ok : ∀ k, k < 8 → parseFieldDescriptor (TX7 k).2.2.1 = some (tyX7 k) := by decide +kernel
abbrev cX7_init : ByteArray := prog_4_method_1_code
def yX7_init : MethodName := ⟨RX7, "<init>", "(II)V"⟩
def dkwX7_init_0 : List UInt8 := [42, 1, 1, 3, 3, 183, 0, 1, 42, 27, 181, 0, 7, 42, 28, 181, 0, 13, 177]
abbrev dktX7_init_0 : List UInt8 := dkwX7_init_0 ++ []
theorem dksX7_init_0 : cX7_init.data.toList.drop 0 = dktX7_init_0 := by decide +kernel
theorem dX7_init_0 : decode cX7_init 0 = .ok (.aload_n 0, 1) := dk_42 (dk_at dksX7_init_0 0 rfl rfl)
theorem dX7_init_1 : decode cX7_init 1 = .ok (.aconst_null, 1) := dk_1 (dk_at dksX7_init_0 1 rfl rfl)
theorem dX7_init_2 : decode cX7_init 2 = .ok (.aconst_null, 1) := dk_1 (dk_at dksX7_init_0 2 rfl rfl)
theorem dX7_init_3 : decode cX7_init 3 = .ok (.iconst 0, 1) := dk_3 (dk_at dksX7_init_0 3 rfl rfl)
theorem dX7_init_4 : decode cX7_init 4 = .ok (.iconst 0, 1) := dk_3 (dk_at dksX7_init_0 4 rfl rfl)
theorem dX7_init_5 : decode cX7_init 5 = .ok (.invokespecial 1, 3) := dk_183 0 1 (dk_at dksX7_init_0 5 rfl rfl)
theorem dX7_init_8 : decode cX7_init 8 = .ok (.aload_n 0, 1) := dk_42 (dk_at dksX7_init_0 8 rfl rfl)
theorem dX7_init_9 : decode cX7_init 9 = .ok (.iload_n 1, 1) := dk_27 (dk_at dksX7_init_0 9 rfl rfl)
theorem dX7_init_10 : decode cX7_init 10 = .ok (.putfield 7, 3) := dk_181 0 7 (dk_at dksX7_init_0 10 rfl rfl)
theorem dX7_init_13 : decode cX7_init 13 = .ok (.aload_n 0, 1) := dk_42 (dk_at dksX7_init_0 13 rfl rfl)
theorem dX7_init_14 : decode cX7_init 14 = .ok (.iload_n 2, 1) := dk_28 (dk_at dksX7_init_0 14 rfl rfl)
theorem dX7_init_15 : decode cX7_init 15 = .ok (.putfield 13, 3) := dk_181 0 13 (dk_at dksX7_init_0 15 rfl rfl)
theorem dX7_init_18 : decode cX7_init 18 = .ok (.return_, 1) := dk_177 (dk_at dksX7_init_0 18 rfl rfl)
theorem q171 : (Jvm.Cond.initialized "RoseProverbs$ParseException") ∈ lw_all := lw_g (lw_at lw_m1 39 rfl) rfl
theorem q265 : (Jvm.Cond.selects "RoseProverbs$ParseException" ({ cls := "java/lang/Throwable", name := "fillInStackTrace", desc := "()Ljava/lang/Throwable;" } : Jvm.MethodName) ({ cls := "java/lang/Throwable", name := "fillInStackTrace", desc := "()Ljava/lang/Throwable;" } : Jvm.MethodName)) ∈ lw_all := lw_g (lw_at lw_m1 133 rfl) rfl
theorem q777 : (Jvm.Cond.selects "RoseProverbs$ParseException" ({ cls := "java/lang/Object", name := "getClass", desc := "()Ljava/lang/Class;" } : Jvm.MethodName) ({ cls := "java/lang/Object", name := "getClass", desc := "()Ljava/lang/Class;" } : Jvm.MethodName)) ∈ lw_all := lw_g (lw_at lw_m3 165 rfl) rfl
theorem q1461 : (Jvm.Cond.instantiable "RoseProverbs$ParseException" (8 : Nat)) ∈ lw_all := lw_g (lw_at lw_m6 129 rfl) rfl
theorem q1462 : (Jvm.Cond.castable "RoseProverbs$ParseException" "RoseProverbs$ParseException") ∈ lw_tbl := lw_at lw_m6 130 rfl
theorem q1463 : (Jvm.Cond.selects "RoseProverbs$ParseException" ({ cls := "java/lang/Throwable", name := "fillInStackTrace", desc := "(I)Ljava/lang/Throwable;" } : Jvm.MethodName) ({ cls := "java/lang/Throwable", name := "fillInStackTrace", desc := "(I)Ljava/lang/Throwable;" } : Jvm.MethodName)) ∈ lw_all := lw_g (lw_at lw_m6 131 rfl) rfl
theorem q1464 : (Jvm.Cond.lays "RoseProverbs$ParseException" "java/lang/Throwable" "cause" "Ljava/lang/Throwable;") ∈ lw_all := lw_g (lw_at lw_m6 132 rfl) rfl
theorem q1465 : (Jvm.Cond.lays "RoseProverbs$ParseException" "java/lang/Throwable" "stackTrace" "[Ljava/lang/StackTraceElement;") ∈ lw_all := lw_g (lw_at lw_m6 133 rfl) rfl
theorem q1466 : (Jvm.Cond.lays "RoseProverbs$ParseException" "java/lang/Throwable" "suppressedExceptions" "Ljava/util/List;") ∈ lw_all := lw_g (lw_at lw_m6 134 rfl) rfl
theorem q1467 : (Jvm.Cond.lays "RoseProverbs$ParseException" "java/lang/Throwable" "detailMessage" "Ljava/lang/String;") ∈ lw_all := lw_g (lw_at lw_m6 135 rfl) rfl
theorem q1468 : (Jvm.Cond.lays "RoseProverbs$ParseException" "java/lang/Throwable" "backtrace" "Ljava/lang/Object;") ∈ lw_all := lw_g (lw_at lw_m6 136 rfl) rfl
theorem q1470 : (Jvm.Cond.instanceMethod ({ cls := "RoseProverbs$ParseException", name := "<init>", desc := "(II)V" } : Jvm.MethodName)) ∈ lw_all := lw_g (lw_at lw_m6 138 rfl) rfl
theorem q1471 : (Jvm.Cond.code ({ cls := "RoseProverbs$ParseException", name := "<init>", desc := "(II)V" } : Jvm.MethodName) prog_4_method_1_code (3 : Nat) (Option.none : Option Jvm.ClassFile.FieldType)) ∈ lw_all := lw_g (lw_at lw_m6 139 rfl) rfl
theorem q1472 : (Jvm.Cond.methodLink "RoseProverbs$ParseException" (1 : Nat) ({ cls := "java/lang/Exception", name := "<init>", desc := "(Ljava/lang/String;Ljava/lang/Throwable;ZZ)V" } : Jvm.MethodName)) ∈ lw_all := lw_g (lw_at lw_m6 140 rfl) rfl
theorem q1478 : (Jvm.Cond.fieldLink "RoseProverbs$ParseException" (7 : Nat) "RoseProverbs$ParseException" "code" "I") ∈ lw_all := lw_g (lw_at lw_m6 146 rfl) rfl
theorem q1480 : (Jvm.Cond.fieldLink "RoseProverbs$ParseException" (13 : Nat) "RoseProverbs$ParseException" "offset" "I") ∈ lw_all := lw_g (lw_at lw_m6 148 rfl) rfl
theorem q1482 : (Jvm.Cond.laysFinal "RoseProverbs$ParseException" "RoseProverbs$ParseException" "code" "I") ∈ lw_all := lw_g (lw_at lw_m6 150 rfl) rfl
theorem q1483 : (Jvm.Cond.soleField "RoseProverbs$ParseException" "code") ∈ lw_all := lw_g (lw_at lw_m6 151 rfl) rfl
theorem q1484 : (Jvm.Cond.laysFinal "RoseProverbs$ParseException" "RoseProverbs$ParseException" "offset" "I") ∈ lw_all := lw_g (lw_at lw_m6 152 rfl) rfl
theorem q1485 : (Jvm.Cond.soleField "RoseProverbs$ParseException" "offset") ∈ lw_all := lw_g (lw_at lw_m6 153 rfl) rfl
theorem q1486 : (Jvm.Cond.lays "RoseProverbs$ParseException" "java/lang/Throwable" "depth" "I") ∈ lw_all := lw_g (lw_at lw_m6 154 rfl) rfl
theorem q1487 : (Jvm.Cond.superclass "RoseProverbs$ParseException" "java/lang/Exception") ∈ lw_all := lw_g (lw_at lw_m6 155 rfl) rfl
theorem q3606 : (Jvm.Cond.castable "RoseProverbs$ParseException" "java/lang/Object") ∈ lw_tbl := lw_at lw_m15 114 rfl
theorem in_X7 : ∀ w ∈ wsX70, w ∈ lw_all := lw_in wsX70 [1464, 1465, 1466, 1467, 1468, 1486, 1482, 1484] (by decide +kernel) (by decide +kernel)
/-! RoseProverbs$Script -/
set_option maxRecDepth 100000
def RX8 : String := "RoseProverbs$Script"
def TX8 : u_T := fun k => match k with
  | 0 => ("RoseProverbs$Parser", "start", "I", false)
  | 1 => ("RoseProverbs$Parser", "next", "I", false)
  | 2 => ("RoseProverbs$Parser", "token", "I", false)
  | 3 => ("RoseProverbs$Parser", "value", "I", false)
  | 4 => ("RoseProverbs$Parser", "word", "Ljava/lang/String;", false)
  | 5 => ("RoseProverbs$Parser", "this$0", "LRoseProverbs;", true)
  | 6 => ("RoseProverbs$Script", "deeds", "Ljava/util/List;", true)
  | _ => ("RoseProverbs$Script", "this$0", "LRoseProverbs;", true)
def tyX8 : Nat → FieldType := fun k => match k with
  | 0 => .int
  | 1 => .int
  | 2 => .int
  | 3 => .int
  | 4 => .object "java/lang/String"
  | 5 => .object "RoseProverbs"
  | 6 => .object "java/util/List"
  | _ => .object "RoseProverbs"
abbrev wsX80 : List Cond := u_ws RX8 TX8 8
-- two fields of one name: no nmX8
theorem tyX8_ok : ∀ k, k < 8 → parseFieldDescriptor (TX8 k).2.2.1 = some (tyX8 k) := by decide +kernel
abbrev cX8_init : ByteArray := prog_12_method_1_code
def yX8_init : MethodName := ⟨RX8, "<init>", "(LRoseProverbs;)V"⟩
def dkwX8_init_0 : List UInt8 := [42, 43, 181, 0, 3, 42, 43, 183, 0, 9, 42, 187, 0, 15, 89, 16, 30, 183, 0, 17, 181, 0, 20, 177]
abbrev dktX8_init_0 : List UInt8 := dkwX8_init_0 ++ []
theorem dksX8_init_0 : cX8_init.data.toList.drop 0 = dktX8_init_0 := by decide +kernel
theorem dX8_init_0 : decode cX8_init 0 = .ok (.aload_n 0, 1) := dk_42 (dk_at dksX8_init_0 0 rfl rfl)
theorem dX8_init_1 : decode cX8_init 1 = .ok (.aload_n 1, 1) := dk_43 (dk_at dksX8_init_0 1 rfl rfl)
theorem dX8_init_2 : decode cX8_init 2 = .ok (.putfield 3, 3) := dk_181 0 3 (dk_at dksX8_init_0 2 rfl rfl)
theorem dX8_init_5 : decode cX8_init 5 = .ok (.aload_n 0, 1) := dk_42 (dk_at dksX8_init_0 5 rfl rfl)
theorem dX8_init_6 : decode cX8_init 6 = .ok (.aload_n 1, 1) := dk_43 (dk_at dksX8_init_0 6 rfl rfl)
theorem dX8_init_7 : decode cX8_init 7 = .ok (.invokespecial 9, 3) := dk_183 0 9 (dk_at dksX8_init_0 7 rfl rfl)
theorem dX8_init_10 : decode cX8_init 10 = .ok (.aload_n 0, 1) := dk_42 (dk_at dksX8_init_0 10 rfl rfl)
theorem dX8_init_11 : decode cX8_init 11 = .ok (.new 15, 3) := dk_187 0 15 (dk_at dksX8_init_0 11 rfl rfl)
theorem dX8_init_14 : decode cX8_init 14 = .ok (.dup, 1) := dk_89 (dk_at dksX8_init_0 14 rfl rfl)
theorem dX8_init_15 : decode cX8_init 15 = .ok (.bipush 30, 2) := dk_16 30 (dk_at dksX8_init_0 15 rfl rfl)
theorem dX8_init_17 : decode cX8_init 17 = .ok (.invokespecial 17, 3) := dk_183 0 17 (dk_at dksX8_init_0 17 rfl rfl)
theorem dX8_init_20 : decode cX8_init 20 = .ok (.putfield 20, 3) := dk_181 0 20 (dk_at dksX8_init_0 20 rfl rfl)
theorem dX8_init_23 : decode cX8_init 23 = .ok (.return_, 1) := dk_177 (dk_at dksX8_init_0 23 rfl rfl)
abbrev cX8_read : ByteArray := prog_12_method_9_code
def yX8_read : MethodName := ⟨RX8, "read", "()Ljava/util/List;"⟩
def dkwX8_read_3 : List UInt8 := [167, 255, 187, 42, 180, 0, 20, 176]
abbrev dktX8_read_3 : List UInt8 := dkwX8_read_3 ++ []
def dkwX8_read_2 : List UInt8 := [182, 0, 116, 42, 180, 0, 20, 42, 43, 182, 0, 120, 185, 0, 123, 2, 0, 61, 42, 182, 0, 126]
abbrev dktX8_read_2 : List UInt8 := dkwX8_read_2 ++ dktX8_read_3
def dkwX8_read_1 : List UInt8 := [180, 0, 20, 185, 0, 111, 1, 0, 16, 30, 162, 0, 7, 4, 167, 0, 4, 3, 6, 182, 0, 107, 42]
abbrev dktX8_read_1 : List UInt8 := dkwX8_read_1 ++ dktX8_read_2
def dkwX8_read_0 : List UInt8 := [42, 182, 0, 95, 154, 0, 68, 42, 182, 0, 99, 76, 42, 42, 43, 182, 0, 103, 4, 182, 0, 107, 42, 42]
abbrev dktX8_read_0 : List UInt8 := dkwX8_read_0 ++ dktX8_read_1
theorem dksX8_read_0 : cX8_read.data.toList.drop 0 = dktX8_read_0 := by decide +kernel
theorem dksX8_read_1 : cX8_read.data.toList.drop 24 = dktX8_read_1 := dk_seg dksX8_read_0 24 rfl rfl
theorem dksX8_read_2 : cX8_read.data.toList.drop 47 = dktX8_read_2 := dk_seg dksX8_read_1 23 rfl rfl
theorem dksX8_read_3 : cX8_read.data.toList.drop 69 = dktX8_read_3 := dk_seg dksX8_read_2 22 rfl rfl
theorem dX8_read_0 : decode cX8_read 0 = .ok (.aload_n 0, 1) := dk_42 (dk_at dksX8_read_0 0 rfl rfl)
theorem dX8_read_1 : decode cX8_read 1 = .ok (.invokevirtual 95, 3) := dk_182 0 95 (dk_at dksX8_read_0 1 rfl rfl)
theorem dX8_read_4 : decode cX8_read 4 = .ok (.ifCond .ne 68, 3) := dk_154 0 68 (dk_at dksX8_read_0 4 rfl rfl)
theorem dX8_read_7 : decode cX8_read 7 = .ok (.aload_n 0, 1) := dk_42 (dk_at dksX8_read_0 7 rfl rfl)
theorem dX8_read_8 : decode cX8_read 8 = .ok (.invokevirtual 99, 3) := dk_182 0 99 (dk_at dksX8_read_0 8 rfl rfl)
theorem dX8_read_11 : decode cX8_read 11 = .ok (.astore_n 1, 1) := dk_76 (dk_at dksX8_read_0 11 rfl rfl)
theorem dX8_read_12 : decode cX8_read 12 = .ok (.aload_n 0, 1) := dk_42 (dk_at dksX8_read_0 12 rfl rfl)
theorem dX8_read_13 : decode cX8_read 13 = .ok (.aload_n 0, 1) := dk_42 (dk_at dksX8_read_0 13 rfl rfl)
theorem dX8_read_14 : decode cX8_read 14 = .ok (.aload_n 1, 1) := dk_43 (dk_at dksX8_read_0 14 rfl rfl)
theorem dX8_read_15 : decode cX8_read 15 = .ok (.invokevirtual 103, 3) := dk_182 0 103 (dk_at dksX8_read_0 15 rfl rfl)
theorem dX8_read_18 : decode cX8_read 18 = .ok (.iconst 1, 1) := dk_4 (dk_at dksX8_read_0 18 rfl rfl)
theorem dX8_read_19 : decode cX8_read 19 = .ok (.invokevirtual 107, 3) := dk_182 0 107 (dk_at dksX8_read_0 19 rfl rfl)
theorem dX8_read_22 : decode cX8_read 22 = .ok (.aload_n 0, 1) := dk_42 (dk_at dksX8_read_0 22 rfl rfl)
theorem dX8_read_23 : decode cX8_read 23 = .ok (.aload_n 0, 1) := dk_42 (dk_at dksX8_read_0 23 rfl rfl)
theorem dX8_read_24 : decode cX8_read 24 = .ok (.getfield 20, 3) := dk_180 0 20 (dk_at dksX8_read_1 0 rfl rfl)
theorem dX8_read_27 : decode cX8_read 27 = .ok (.invokeinterface 111 1, 5) := by decide +kernel
theorem dX8_read_32 : decode cX8_read 32 = .ok (.bipush 30, 2) := dk_16 30 (dk_at dksX8_read_1 8 rfl rfl)
theorem dX8_read_34 : decode cX8_read 34 = .ok (.if_icmp .ge 7, 3) := dk_162 0 7 (dk_at dksX8_read_1 10 rfl rfl)
theorem dX8_read_37 : decode cX8_read 37 = .ok (.iconst 1, 1) := dk_4 (dk_at dksX8_read_1 13 rfl rfl)
theorem dX8_read_38 : decode cX8_read 38 = .ok (.goto 4, 3) := dk_167 0 4 (dk_at dksX8_read_1 14 rfl rfl)
theorem dX8_read_41 : decode cX8_read 41 = .ok (.iconst 0, 1) := dk_3 (dk_at dksX8_read_1 17 rfl rfl)
theorem dX8_read_42 : decode cX8_read 42 = .ok (.iconst 3, 1) := dk_6 (dk_at dksX8_read_1 18 rfl rfl)
theorem dX8_read_43 : decode cX8_read 43 = .ok (.invokevirtual 107, 3) := dk_182 0 107 (dk_at dksX8_read_1 19 rfl rfl)
theorem dX8_read_46 : decode cX8_read 46 = .ok (.aload_n 0, 1) := dk_42 (dk_at dksX8_read_1 22 rfl rfl)
theorem dX8_read_47 : decode cX8_read 47 = .ok (.invokevirtual 116, 3) := dk_182 0 116 (dk_at dksX8_read_2 0 rfl rfl)
theorem dX8_read_50 : decode cX8_read 50 = .ok (.aload_n 0, 1) := dk_42 (dk_at dksX8_read_2 3 rfl rfl)
theorem dX8_read_51 : decode cX8_read 51 = .ok (.getfield 20, 3) := dk_180 0 20 (dk_at dksX8_read_2 4 rfl rfl)
theorem dX8_read_54 : decode cX8_read 54 = .ok (.aload_n 0, 1) := dk_42 (dk_at dksX8_read_2 7 rfl rfl)
theorem dX8_read_55 : decode cX8_read 55 = .ok (.aload_n 1, 1) := dk_43 (dk_at dksX8_read_2 8 rfl rfl)
theorem dX8_read_56 : decode cX8_read 56 = .ok (.invokevirtual 120, 3) := dk_182 0 120 (dk_at dksX8_read_2 9 rfl rfl)
theorem dX8_read_59 : decode cX8_read 59 = .ok (.invokeinterface 123 2, 5) := by decide +kernel
theorem dX8_read_64 : decode cX8_read 64 = .ok (.istore_n 2, 1) := dk_61 (dk_at dksX8_read_2 17 rfl rfl)
theorem dX8_read_65 : decode cX8_read 65 = .ok (.aload_n 0, 1) := dk_42 (dk_at dksX8_read_2 18 rfl rfl)
theorem dX8_read_66 : decode cX8_read 66 = .ok (.invokevirtual 126, 3) := dk_182 0 126 (dk_at dksX8_read_2 19 rfl rfl)
theorem dX8_read_69 : decode cX8_read 69 = .ok (.goto (-69), 3) := dk_167 255 187 (dk_at dksX8_read_3 0 rfl rfl)
theorem dX8_read_72 : decode cX8_read 72 = .ok (.aload_n 0, 1) := dk_42 (dk_at dksX8_read_3 3 rfl rfl)
theorem dX8_read_73 : decode cX8_read 73 = .ok (.getfield 20, 3) := dk_180 0 20 (dk_at dksX8_read_3 4 rfl rfl)
theorem dX8_read_76 : decode cX8_read 76 = .ok (.areturn, 1) := dk_176 (dk_at dksX8_read_3 7 rfl rfl)
abbrev cX8_isDeed : ByteArray := prog_12_method_2_code
def yX8_isDeed : MethodName := ⟨RX8, "isDeed", "(Ljava/lang/String;)Z"⟩
def dkwX8_isDeed_6 : List UInt8 := [4, 172, 43, 184, 0, 42, 2, 159, 0, 7, 4, 167, 0, 4, 3, 172]
abbrev dktX8_isDeed_6 : List UInt8 := dkwX8_isDeed_6 ++ []
def dkwX8_isDeed_5 : List UInt8 := [170, 0, 0, 0, 0, 32, 0, 0, 0, 0, 0, 0, 0, 3, 0, 0, 0, 30, 0, 0, 0, 30, 0, 0, 0, 30, 0, 0, 0, 30]
abbrev dktX8_isDeed_5 : List UInt8 := dkwX8_isDeed_5 ++ dktX8_isDeed_6
def dkwX8_isDeed_4 : List UInt8 := [153, 0, 5, 6, 62, 29]
abbrev dktX8_isDeed_4 : List UInt8 := dkwX8_isDeed_4 ++ dktX8_isDeed_5
def dkwX8_isDeed_3 : List UInt8 := [62, 167, 0, 28, 44, 18, 38, 182, 0, 32, 153, 0, 19, 5, 62, 167, 0, 14, 44, 18, 40, 182, 0, 32]
abbrev dktX8_isDeed_3 : List UInt8 := dkwX8_isDeed_3 ++ dktX8_isDeed_4
def dkwX8_isDeed_2 : List UInt8 := [44, 18, 30, 182, 0, 32, 153, 0, 47, 3, 62, 167, 0, 42, 44, 18, 36, 182, 0, 32, 153, 0, 33, 4]
abbrev dktX8_isDeed_2 : List UInt8 := dkwX8_isDeed_2 ++ dktX8_isDeed_3
def dkwX8_isDeed_1 : List UInt8 := [171, 0, 0, 0, 0, 0, 0, 97, 0, 0, 0, 4, 180, 95, 225, 237, 0, 0, 0, 72, 237, 149, 193, 76, 0, 0, 0, 58, 0, 1, 131, 156, 0, 0, 0, 44, 6, 188, 109, 124, 0, 0, 0, 86]
abbrev dktX8_isDeed_1 : List UInt8 := dkwX8_isDeed_1 ++ dktX8_isDeed_2
def dkwX8_isDeed_0 : List UInt8 := [43, 77, 2, 62, 44, 182, 0, 24]
abbrev dktX8_isDeed_0 : List UInt8 := dkwX8_isDeed_0 ++ dktX8_isDeed_1
theorem dksX8_isDeed_0 : cX8_isDeed.data.toList.drop 0 = dktX8_isDeed_0 := by decide +kernel
theorem dksX8_isDeed_1 : cX8_isDeed.data.toList.drop 8 = dktX8_isDeed_1 := dk_seg dksX8_isDeed_0 8 rfl rfl
theorem dksX8_isDeed_2 : cX8_isDeed.data.toList.drop 52 = dktX8_isDeed_2 := dk_seg dksX8_isDeed_1 44 rfl rfl
theorem dksX8_isDeed_3 : cX8_isDeed.data.toList.drop 76 = dktX8_isDeed_3 := dk_seg dksX8_isDeed_2 24 rfl rfl
theorem dksX8_isDeed_4 : cX8_isDeed.data.toList.drop 100 = dktX8_isDeed_4 := dk_seg dksX8_isDeed_3 24 rfl rfl
theorem dksX8_isDeed_5 : cX8_isDeed.data.toList.drop 106 = dktX8_isDeed_5 := dk_seg dksX8_isDeed_4 6 rfl rfl
theorem dksX8_isDeed_6 : cX8_isDeed.data.toList.drop 136 = dktX8_isDeed_6 := dk_seg dksX8_isDeed_5 30 rfl rfl
theorem dX8_isDeed_0 : decode cX8_isDeed 0 = .ok (.aload_n 1, 1) := dk_43 (dk_at dksX8_isDeed_0 0 rfl rfl)
theorem dX8_isDeed_1 : decode cX8_isDeed 1 = .ok (.astore_n 2, 1) := dk_77 (dk_at dksX8_isDeed_0 1 rfl rfl)
theorem dX8_isDeed_2 : decode cX8_isDeed 2 = .ok (.iconst (-1), 1) := dk_2 (dk_at dksX8_isDeed_0 2 rfl rfl)
theorem dX8_isDeed_3 : decode cX8_isDeed 3 = .ok (.istore_n 3, 1) := dk_62 (dk_at dksX8_isDeed_0 3 rfl rfl)
theorem dX8_isDeed_4 : decode cX8_isDeed 4 = .ok (.aload_n 2, 1) := dk_44 (dk_at dksX8_isDeed_0 4 rfl rfl)
theorem dX8_isDeed_5 : decode cX8_isDeed 5 = .ok (.invokevirtual 24, 3) := dk_182 0 24 (dk_at dksX8_isDeed_0 5 rfl rfl)
theorem dX8_isDeed_8 : decode cX8_isDeed 8 = .ok (.lookupswitch 97 #[(-1268784659, 72), (-308952756, 58), (99228, 44), (113012092, 86)], 44) := by decide +kernel
theorem dX8_isDeed_52 : decode cX8_isDeed 52 = .ok (.aload_n 2, 1) := dk_44 (dk_at dksX8_isDeed_2 0 rfl rfl)
theorem dX8_isDeed_53 : decode cX8_isDeed 53 = .ok (.ldc 30, 2) := dk_18 30 (dk_at dksX8_isDeed_2 1 rfl rfl)
theorem dX8_isDeed_55 : decode cX8_isDeed 55 = .ok (.invokevirtual 32, 3) := dk_182 0 32 (dk_at dksX8_isDeed_2 3 rfl rfl)
theorem dX8_isDeed_58 : decode cX8_isDeed 58 = .ok (.ifCond .eq 47, 3) := dk_153 0 47 (dk_at dksX8_isDeed_2 6 rfl rfl)
theorem dX8_isDeed_61 : decode cX8_isDeed 61 = .ok (.iconst 0, 1) := dk_3 (dk_at dksX8_isDeed_2 9 rfl rfl)
theorem dX8_isDeed_62 : decode cX8_isDeed 62 = .ok (.istore_n 3, 1) := dk_62 (dk_at dksX8_isDeed_2 10 rfl rfl)
theorem dX8_isDeed_63 : decode cX8_isDeed 63 = .ok (.goto 42, 3) := dk_167 0 42 (dk_at dksX8_isDeed_2 11 rfl rfl)
theorem dX8_isDeed_66 : decode cX8_isDeed 66 = .ok (.aload_n 2, 1) := dk_44 (dk_at dksX8_isDeed_2 14 rfl rfl)
theorem dX8_isDeed_67 : decode cX8_isDeed 67 = .ok (.ldc 36, 2) := dk_18 36 (dk_at dksX8_isDeed_2 15 rfl rfl)
theorem dX8_isDeed_69 : decode cX8_isDeed 69 = .ok (.invokevirtual 32, 3) := dk_182 0 32 (dk_at dksX8_isDeed_2 17 rfl rfl)
theorem dX8_isDeed_72 : decode cX8_isDeed 72 = .ok (.ifCond .eq 33, 3) := dk_153 0 33 (dk_at dksX8_isDeed_2 20 rfl rfl)
theorem dX8_isDeed_75 : decode cX8_isDeed 75 = .ok (.iconst 1, 1) := dk_4 (dk_at dksX8_isDeed_2 23 rfl rfl)
theorem dX8_isDeed_76 : decode cX8_isDeed 76 = .ok (.istore_n 3, 1) := dk_62 (dk_at dksX8_isDeed_3 0 rfl rfl)
theorem dX8_isDeed_77 : decode cX8_isDeed 77 = .ok (.goto 28, 3) := dk_167 0 28 (dk_at dksX8_isDeed_3 1 rfl rfl)
theorem dX8_isDeed_80 : decode cX8_isDeed 80 = .ok (.aload_n 2, 1) := dk_44 (dk_at dksX8_isDeed_3 4 rfl rfl)
theorem dX8_isDeed_81 : decode cX8_isDeed 81 = .ok (.ldc 38, 2) := dk_18 38 (dk_at dksX8_isDeed_3 5 rfl rfl)
theorem dX8_isDeed_83 : decode cX8_isDeed 83 = .ok (.invokevirtual 32, 3) := dk_182 0 32 (dk_at dksX8_isDeed_3 7 rfl rfl)
theorem dX8_isDeed_86 : decode cX8_isDeed 86 = .ok (.ifCond .eq 19, 3) := dk_153 0 19 (dk_at dksX8_isDeed_3 10 rfl rfl)
theorem dX8_isDeed_89 : decode cX8_isDeed 89 = .ok (.iconst 2, 1) := dk_5 (dk_at dksX8_isDeed_3 13 rfl rfl)
theorem dX8_isDeed_90 : decode cX8_isDeed 90 = .ok (.istore_n 3, 1) := dk_62 (dk_at dksX8_isDeed_3 14 rfl rfl)
theorem dX8_isDeed_91 : decode cX8_isDeed 91 = .ok (.goto 14, 3) := dk_167 0 14 (dk_at dksX8_isDeed_3 15 rfl rfl)
theorem dX8_isDeed_94 : decode cX8_isDeed 94 = .ok (.aload_n 2, 1) := dk_44 (dk_at dksX8_isDeed_3 18 rfl rfl)
theorem dX8_isDeed_95 : decode cX8_isDeed 95 = .ok (.ldc 40, 2) := dk_18 40 (dk_at dksX8_isDeed_3 19 rfl rfl)
theorem dX8_isDeed_97 : decode cX8_isDeed 97 = .ok (.invokevirtual 32, 3) := dk_182 0 32 (dk_at dksX8_isDeed_3 21 rfl rfl)
theorem dX8_isDeed_100 : decode cX8_isDeed 100 = .ok (.ifCond .eq 5, 3) := dk_153 0 5 (dk_at dksX8_isDeed_4 0 rfl rfl)
theorem dX8_isDeed_103 : decode cX8_isDeed 103 = .ok (.iconst 3, 1) := dk_6 (dk_at dksX8_isDeed_4 3 rfl rfl)
theorem dX8_isDeed_104 : decode cX8_isDeed 104 = .ok (.istore_n 3, 1) := dk_62 (dk_at dksX8_isDeed_4 4 rfl rfl)
theorem dX8_isDeed_105 : decode cX8_isDeed 105 = .ok (.iload_n 3, 1) := dk_29 (dk_at dksX8_isDeed_4 5 rfl rfl)
theorem dX8_isDeed_106 : decode cX8_isDeed 106 = .ok (.tableswitch 32 0 3 #[30, 30, 30, 30], 30) := by decide +kernel
theorem dX8_isDeed_136 : decode cX8_isDeed 136 = .ok (.iconst 1, 1) := dk_4 (dk_at dksX8_isDeed_6 0 rfl rfl)
theorem dX8_isDeed_137 : decode cX8_isDeed 137 = .ok (.ireturn, 1) := dk_172 (dk_at dksX8_isDeed_6 1 rfl rfl)
theorem dX8_isDeed_138 : decode cX8_isDeed 138 = .ok (.aload_n 1, 1) := dk_43 (dk_at dksX8_isDeed_6 2 rfl rfl)
theorem dX8_isDeed_139 : decode cX8_isDeed 139 = .ok (.invokestatic 42, 3) := dk_184 0 42 (dk_at dksX8_isDeed_6 3 rfl rfl)
theorem dX8_isDeed_142 : decode cX8_isDeed 142 = .ok (.iconst (-1), 1) := dk_2 (dk_at dksX8_isDeed_6 6 rfl rfl)
theorem dX8_isDeed_143 : decode cX8_isDeed 143 = .ok (.if_icmp .eq 7, 3) := dk_159 0 7 (dk_at dksX8_isDeed_6 7 rfl rfl)
theorem dX8_isDeed_146 : decode cX8_isDeed 146 = .ok (.iconst 1, 1) := dk_4 (dk_at dksX8_isDeed_6 10 rfl rfl)
theorem dX8_isDeed_147 : decode cX8_isDeed 147 = .ok (.goto 4, 3) := dk_167 0 4 (dk_at dksX8_isDeed_6 11 rfl rfl)
theorem dX8_isDeed_150 : decode cX8_isDeed 150 = .ok (.iconst 0, 1) := dk_3 (dk_at dksX8_isDeed_6 14 rfl rfl)
theorem dX8_isDeed_151 : decode cX8_isDeed 151 = .ok (.ireturn, 1) := dk_172 (dk_at dksX8_isDeed_6 15 rfl rfl)
abbrev cX8_deed : ByteArray := prog_12_method_8_code
def yX8_deed : MethodName := ⟨RX8, "deed", "(Ljava/lang/String;)LRoseProverbs$Deed;"⟩
def dkwX8_deed_7 : List UInt8 := [182, 0, 91, 176]
abbrev dktX8_deed_7 : List UInt8 := dkwX8_deed_7 ++ []
def dkwX8_deed_6 : List UInt8 := [42, 182, 0, 78, 176, 42, 182, 0, 82, 176, 42, 182, 0, 85, 176, 42, 182, 0, 88, 176, 42, 43]
abbrev dktX8_deed_6 : List UInt8 := dkwX8_deed_6 ++ dktX8_deed_7
def dkwX8_deed_5 : List UInt8 := [170, 0, 0, 0, 0, 50, 0, 0, 0, 0, 0, 0, 0, 3, 0, 0, 0, 30, 0, 0, 0, 35, 0, 0, 0, 40, 0, 0, 0, 45]
abbrev dktX8_deed_5 : List UInt8 := dkwX8_deed_5 ++ dktX8_deed_6
def dkwX8_deed_4 : List UInt8 := [153, 0, 5, 6, 62, 29]
abbrev dktX8_deed_4 : List UInt8 := dkwX8_deed_4 ++ dktX8_deed_5
def dkwX8_deed_3 : List UInt8 := [62, 167, 0, 28, 44, 18, 38, 182, 0, 32, 153, 0, 19, 5, 62, 167, 0, 14, 44, 18, 40, 182, 0, 32]
abbrev dktX8_deed_3 : List UInt8 := dkwX8_deed_3 ++ dktX8_deed_4
def dkwX8_deed_2 : List UInt8 := [44, 18, 30, 182, 0, 32, 153, 0, 47, 3, 62, 167, 0, 42, 44, 18, 36, 182, 0, 32, 153, 0, 33, 4]
abbrev dktX8_deed_2 : List UInt8 := dkwX8_deed_2 ++ dktX8_deed_3
def dkwX8_deed_1 : List UInt8 := [171, 0, 0, 0, 0, 0, 0, 97, 0, 0, 0, 4, 180, 95, 225, 237, 0, 0, 0, 72, 237, 149, 193, 76, 0, 0, 0, 58, 0, 1, 131, 156, 0, 0, 0, 44, 6, 188, 109, 124, 0, 0, 0, 86]
abbrev dktX8_deed_1 : List UInt8 := dkwX8_deed_1 ++ dktX8_deed_2
def dkwX8_deed_0 : List UInt8 := [43, 77, 2, 62, 44, 182, 0, 24]
abbrev dktX8_deed_0 : List UInt8 := dkwX8_deed_0 ++ dktX8_deed_1
theorem dksX8_deed_0 : cX8_deed.data.toList.drop 0 = dktX8_deed_0 := by decide +kernel
theorem dksX8_deed_1 : cX8_deed.data.toList.drop 8 = dktX8_deed_1 := dk_seg dksX8_deed_0 8 rfl rfl
theorem dksX8_deed_2 : cX8_deed.data.toList.drop 52 = dktX8_deed_2 := dk_seg dksX8_deed_1 44 rfl rfl
theorem dksX8_deed_3 : cX8_deed.data.toList.drop 76 = dktX8_deed_3 := dk_seg dksX8_deed_2 24 rfl rfl
theorem dksX8_deed_4 : cX8_deed.data.toList.drop 100 = dktX8_deed_4 := dk_seg dksX8_deed_3 24 rfl rfl
theorem dksX8_deed_5 : cX8_deed.data.toList.drop 106 = dktX8_deed_5 := dk_seg dksX8_deed_4 6 rfl rfl
theorem dksX8_deed_6 : cX8_deed.data.toList.drop 136 = dktX8_deed_6 := dk_seg dksX8_deed_5 30 rfl rfl
theorem dksX8_deed_7 : cX8_deed.data.toList.drop 158 = dktX8_deed_7 := dk_seg dksX8_deed_6 22 rfl rfl
theorem dX8_deed_0 : decode cX8_deed 0 = .ok (.aload_n 1, 1) := dk_43 (dk_at dksX8_deed_0 0 rfl rfl)
theorem dX8_deed_1 : decode cX8_deed 1 = .ok (.astore_n 2, 1) := dk_77 (dk_at dksX8_deed_0 1 rfl rfl)
theorem dX8_deed_2 : decode cX8_deed 2 = .ok (.iconst (-1), 1) := dk_2 (dk_at dksX8_deed_0 2 rfl rfl)
theorem dX8_deed_3 : decode cX8_deed 3 = .ok (.istore_n 3, 1) := dk_62 (dk_at dksX8_deed_0 3 rfl rfl)
theorem dX8_deed_4 : decode cX8_deed 4 = .ok (.aload_n 2, 1) := dk_44 (dk_at dksX8_deed_0 4 rfl rfl)
theorem dX8_deed_5 : decode cX8_deed 5 = .ok (.invokevirtual 24, 3) := dk_182 0 24 (dk_at dksX8_deed_0 5 rfl rfl)
theorem dX8_deed_8 : decode cX8_deed 8 = .ok (.lookupswitch 97 #[(-1268784659, 72), (-308952756, 58), (99228, 44), (113012092, 86)], 44) := by decide +kernel
theorem dX8_deed_52 : decode cX8_deed 52 = .ok (.aload_n 2, 1) := dk_44 (dk_at dksX8_deed_2 0 rfl rfl)
theorem dX8_deed_53 : decode cX8_deed 53 = .ok (.ldc 30, 2) := dk_18 30 (dk_at dksX8_deed_2 1 rfl rfl)
theorem dX8_deed_55 : decode cX8_deed 55 = .ok (.invokevirtual 32, 3) := dk_182 0 32 (dk_at dksX8_deed_2 3 rfl rfl)
theorem dX8_deed_58 : decode cX8_deed 58 = .ok (.ifCond .eq 47, 3) := dk_153 0 47 (dk_at dksX8_deed_2 6 rfl rfl)
theorem dX8_deed_61 : decode cX8_deed 61 = .ok (.iconst 0, 1) := dk_3 (dk_at dksX8_deed_2 9 rfl rfl)
theorem dX8_deed_62 : decode cX8_deed 62 = .ok (.istore_n 3, 1) := dk_62 (dk_at dksX8_deed_2 10 rfl rfl)
theorem dX8_deed_63 : decode cX8_deed 63 = .ok (.goto 42, 3) := dk_167 0 42 (dk_at dksX8_deed_2 11 rfl rfl)
theorem dX8_deed_66 : decode cX8_deed 66 = .ok (.aload_n 2, 1) := dk_44 (dk_at dksX8_deed_2 14 rfl rfl)
theorem dX8_deed_67 : decode cX8_deed 67 = .ok (.ldc 36, 2) := dk_18 36 (dk_at dksX8_deed_2 15 rfl rfl)
theorem dX8_deed_69 : decode cX8_deed 69 = .ok (.invokevirtual 32, 3) := dk_182 0 32 (dk_at dksX8_deed_2 17 rfl rfl)
theorem dX8_deed_72 : decode cX8_deed 72 = .ok (.ifCond .eq 33, 3) := dk_153 0 33 (dk_at dksX8_deed_2 20 rfl rfl)
theorem dX8_deed_75 : decode cX8_deed 75 = .ok (.iconst 1, 1) := dk_4 (dk_at dksX8_deed_2 23 rfl rfl)
theorem dX8_deed_76 : decode cX8_deed 76 = .ok (.istore_n 3, 1) := dk_62 (dk_at dksX8_deed_3 0 rfl rfl)
theorem dX8_deed_77 : decode cX8_deed 77 = .ok (.goto 28, 3) := dk_167 0 28 (dk_at dksX8_deed_3 1 rfl rfl)
theorem dX8_deed_80 : decode cX8_deed 80 = .ok (.aload_n 2, 1) := dk_44 (dk_at dksX8_deed_3 4 rfl rfl)
theorem dX8_deed_81 : decode cX8_deed 81 = .ok (.ldc 38, 2) := dk_18 38 (dk_at dksX8_deed_3 5 rfl rfl)
theorem dX8_deed_83 : decode cX8_deed 83 = .ok (.invokevirtual 32, 3) := dk_182 0 32 (dk_at dksX8_deed_3 7 rfl rfl)
theorem dX8_deed_86 : decode cX8_deed 86 = .ok (.ifCond .eq 19, 3) := dk_153 0 19 (dk_at dksX8_deed_3 10 rfl rfl)
theorem dX8_deed_89 : decode cX8_deed 89 = .ok (.iconst 2, 1) := dk_5 (dk_at dksX8_deed_3 13 rfl rfl)
theorem dX8_deed_90 : decode cX8_deed 90 = .ok (.istore_n 3, 1) := dk_62 (dk_at dksX8_deed_3 14 rfl rfl)
theorem dX8_deed_91 : decode cX8_deed 91 = .ok (.goto 14, 3) := dk_167 0 14 (dk_at dksX8_deed_3 15 rfl rfl)
theorem dX8_deed_94 : decode cX8_deed 94 = .ok (.aload_n 2, 1) := dk_44 (dk_at dksX8_deed_3 18 rfl rfl)
theorem dX8_deed_95 : decode cX8_deed 95 = .ok (.ldc 40, 2) := dk_18 40 (dk_at dksX8_deed_3 19 rfl rfl)
theorem dX8_deed_97 : decode cX8_deed 97 = .ok (.invokevirtual 32, 3) := dk_182 0 32 (dk_at dksX8_deed_3 21 rfl rfl)
theorem dX8_deed_100 : decode cX8_deed 100 = .ok (.ifCond .eq 5, 3) := dk_153 0 5 (dk_at dksX8_deed_4 0 rfl rfl)
theorem dX8_deed_103 : decode cX8_deed 103 = .ok (.iconst 3, 1) := dk_6 (dk_at dksX8_deed_4 3 rfl rfl)
theorem dX8_deed_104 : decode cX8_deed 104 = .ok (.istore_n 3, 1) := dk_62 (dk_at dksX8_deed_4 4 rfl rfl)
theorem dX8_deed_105 : decode cX8_deed 105 = .ok (.iload_n 3, 1) := dk_29 (dk_at dksX8_deed_4 5 rfl rfl)
theorem dX8_deed_106 : decode cX8_deed 106 = .ok (.tableswitch 50 0 3 #[30, 35, 40, 45], 30) := by decide +kernel
theorem dX8_deed_136 : decode cX8_deed 136 = .ok (.aload_n 0, 1) := dk_42 (dk_at dksX8_deed_6 0 rfl rfl)
theorem dX8_deed_137 : decode cX8_deed 137 = .ok (.invokevirtual 78, 3) := dk_182 0 78 (dk_at dksX8_deed_6 1 rfl rfl)
theorem dX8_deed_140 : decode cX8_deed 140 = .ok (.areturn, 1) := dk_176 (dk_at dksX8_deed_6 4 rfl rfl)
theorem dX8_deed_141 : decode cX8_deed 141 = .ok (.aload_n 0, 1) := dk_42 (dk_at dksX8_deed_6 5 rfl rfl)
theorem dX8_deed_142 : decode cX8_deed 142 = .ok (.invokevirtual 82, 3) := dk_182 0 82 (dk_at dksX8_deed_6 6 rfl rfl)
theorem dX8_deed_145 : decode cX8_deed 145 = .ok (.areturn, 1) := dk_176 (dk_at dksX8_deed_6 9 rfl rfl)
theorem dX8_deed_146 : decode cX8_deed 146 = .ok (.aload_n 0, 1) := dk_42 (dk_at dksX8_deed_6 10 rfl rfl)
theorem dX8_deed_147 : decode cX8_deed 147 = .ok (.invokevirtual 85, 3) := dk_182 0 85 (dk_at dksX8_deed_6 11 rfl rfl)
theorem dX8_deed_150 : decode cX8_deed 150 = .ok (.areturn, 1) := dk_176 (dk_at dksX8_deed_6 14 rfl rfl)
theorem dX8_deed_151 : decode cX8_deed 151 = .ok (.aload_n 0, 1) := dk_42 (dk_at dksX8_deed_6 15 rfl rfl)
theorem dX8_deed_152 : decode cX8_deed 152 = .ok (.invokevirtual 88, 3) := dk_182 0 88 (dk_at dksX8_deed_6 16 rfl rfl)
theorem dX8_deed_155 : decode cX8_deed 155 = .ok (.areturn, 1) := dk_176 (dk_at dksX8_deed_6 19 rfl rfl)
theorem dX8_deed_156 : decode cX8_deed 156 = .ok (.aload_n 0, 1) := dk_42 (dk_at dksX8_deed_6 20 rfl rfl)
theorem dX8_deed_157 : decode cX8_deed 157 = .ok (.aload_n 1, 1) := dk_43 (dk_at dksX8_deed_6 21 rfl rfl)
theorem dX8_deed_158 : decode cX8_deed 158 = .ok (.invokevirtual 91, 3) := dk_182 0 91 (dk_at dksX8_deed_7 0 rfl rfl)
theorem dX8_deed_161 : decode cX8_deed 161 = .ok (.areturn, 1) := dk_176 (dk_at dksX8_deed_7 3 rfl rfl)
abbrev cX8_living : ByteArray := prog_12_method_3_code
def yX8_living : MethodName := ⟨RX8, "living", "()LRoseProverbs$Deed;"⟩
def dkwX8_living_1 : List UInt8 := [183, 0, 52, 176]
abbrev dktX8_living_1 : List UInt8 := dkwX8_living_1 ++ []
def dkwX8_living_0 : List UInt8 := [42, 3, 16, 15, 182, 0, 46, 60, 42, 3, 7, 182, 0, 46, 61, 187, 0, 50, 89, 42, 27, 28]
abbrev dktX8_living_0 : List UInt8 := dkwX8_living_0 ++ dktX8_living_1
theorem dksX8_living_0 : cX8_living.data.toList.drop 0 = dktX8_living_0 := by decide +kernel
theorem dksX8_living_1 : cX8_living.data.toList.drop 22 = dktX8_living_1 := dk_seg dksX8_living_0 22 rfl rfl
theorem dX8_living_0 : decode cX8_living 0 = .ok (.aload_n 0, 1) := dk_42 (dk_at dksX8_living_0 0 rfl rfl)
theorem dX8_living_1 : decode cX8_living 1 = .ok (.iconst 0, 1) := dk_3 (dk_at dksX8_living_0 1 rfl rfl)
theorem dX8_living_2 : decode cX8_living 2 = .ok (.bipush 15, 2) := dk_16 15 (dk_at dksX8_living_0 2 rfl rfl)
theorem dX8_living_4 : decode cX8_living 4 = .ok (.invokevirtual 46, 3) := dk_182 0 46 (dk_at dksX8_living_0 4 rfl rfl)
theorem dX8_living_7 : decode cX8_living 7 = .ok (.istore_n 1, 1) := dk_60 (dk_at dksX8_living_0 7 rfl rfl)
theorem dX8_living_8 : decode cX8_living 8 = .ok (.aload_n 0, 1) := dk_42 (dk_at dksX8_living_0 8 rfl rfl)
theorem dX8_living_9 : decode cX8_living 9 = .ok (.iconst 0, 1) := dk_3 (dk_at dksX8_living_0 9 rfl rfl)
theorem dX8_living_10 : decode cX8_living 10 = .ok (.iconst 4, 1) := dk_7 (dk_at dksX8_living_0 10 rfl rfl)
theorem dX8_living_11 : decode cX8_living 11 = .ok (.invokevirtual 46, 3) := dk_182 0 46 (dk_at dksX8_living_0 11 rfl rfl)
theorem dX8_living_14 : decode cX8_living 14 = .ok (.istore_n 2, 1) := dk_61 (dk_at dksX8_living_0 14 rfl rfl)
theorem dX8_living_15 : decode cX8_living 15 = .ok (.new 50, 3) := dk_187 0 50 (dk_at dksX8_living_0 15 rfl rfl)
theorem dX8_living_18 : decode cX8_living 18 = .ok (.dup, 1) := dk_89 (dk_at dksX8_living_0 18 rfl rfl)
theorem dX8_living_19 : decode cX8_living 19 = .ok (.aload_n 0, 1) := dk_42 (dk_at dksX8_living_0 19 rfl rfl)
theorem dX8_living_20 : decode cX8_living 20 = .ok (.iload_n 1, 1) := dk_27 (dk_at dksX8_living_0 20 rfl rfl)
theorem dX8_living_21 : decode cX8_living 21 = .ok (.iload_n 2, 1) := dk_28 (dk_at dksX8_living_0 21 rfl rfl)
theorem dX8_living_22 : decode cX8_living 22 = .ok (.invokespecial 52, 3) := dk_183 0 52 (dk_at dksX8_living_1 0 rfl rfl)
theorem dX8_living_25 : decode cX8_living 25 = .ok (.areturn, 1) := dk_176 (dk_at dksX8_living_1 3 rfl rfl)
abbrev cX8_coming : ByteArray := prog_12_method_4_code
def yX8_coming : MethodName := ⟨RX8, "coming", "()LRoseProverbs$Deed;"⟩
def dkwX8_coming_0 : List UInt8 := [42, 182, 0, 55, 76, 187, 0, 58, 89, 42, 43, 183, 0, 60, 176]
abbrev dktX8_coming_0 : List UInt8 := dkwX8_coming_0 ++ []
theorem dksX8_coming_0 : cX8_coming.data.toList.drop 0 = dktX8_coming_0 := by decide +kernel
theorem dX8_coming_0 : decode cX8_coming 0 = .ok (.aload_n 0, 1) := dk_42 (dk_at dksX8_coming_0 0 rfl rfl)
theorem dX8_coming_1 : decode cX8_coming 1 = .ok (.invokevirtual 55, 3) := dk_182 0 55 (dk_at dksX8_coming_0 1 rfl rfl)
theorem dX8_coming_4 : decode cX8_coming 4 = .ok (.astore_n 1, 1) := dk_76 (dk_at dksX8_coming_0 4 rfl rfl)
theorem dX8_coming_5 : decode cX8_coming 5 = .ok (.new 58, 3) := dk_187 0 58 (dk_at dksX8_coming_0 5 rfl rfl)
theorem dX8_coming_8 : decode cX8_coming 8 = .ok (.dup, 1) := dk_89 (dk_at dksX8_coming_0 8 rfl rfl)
theorem dX8_coming_9 : decode cX8_coming 9 = .ok (.aload_n 0, 1) := dk_42 (dk_at dksX8_coming_0 9 rfl rfl)
theorem dX8_coming_10 : decode cX8_coming 10 = .ok (.aload_n 1, 1) := dk_43 (dk_at dksX8_coming_0 10 rfl rfl)
theorem dX8_coming_11 : decode cX8_coming 11 = .ok (.invokespecial 60, 3) := dk_183 0 60 (dk_at dksX8_coming_0 11 rfl rfl)
theorem dX8_coming_14 : decode cX8_coming 14 = .ok (.areturn, 1) := dk_176 (dk_at dksX8_coming_0 14 rfl rfl)
abbrev cX8_forgetting : ByteArray := prog_12_method_5_code
def yX8_forgetting : MethodName := ⟨RX8, "forgetting", "()LRoseProverbs$Deed;"⟩
def dkwX8_forgetting_0 : List UInt8 := [42, 3, 16, 23, 182, 0, 46, 60, 187, 0, 63, 89, 42, 27, 183, 0, 65, 176]
abbrev dktX8_forgetting_0 : List UInt8 := dkwX8_forgetting_0 ++ []
theorem dksX8_forgetting_0 : cX8_forgetting.data.toList.drop 0 = dktX8_forgetting_0 := by decide +kernel
theorem dX8_forgetting_0 : decode cX8_forgetting 0 = .ok (.aload_n 0, 1) := dk_42 (dk_at dksX8_forgetting_0 0 rfl rfl)
theorem dX8_forgetting_1 : decode cX8_forgetting 1 = .ok (.iconst 0, 1) := dk_3 (dk_at dksX8_forgetting_0 1 rfl rfl)
theorem dX8_forgetting_2 : decode cX8_forgetting 2 = .ok (.bipush 23, 2) := dk_16 23 (dk_at dksX8_forgetting_0 2 rfl rfl)
theorem dX8_forgetting_4 : decode cX8_forgetting 4 = .ok (.invokevirtual 46, 3) := dk_182 0 46 (dk_at dksX8_forgetting_0 4 rfl rfl)
theorem dX8_forgetting_7 : decode cX8_forgetting 7 = .ok (.istore_n 1, 1) := dk_60 (dk_at dksX8_forgetting_0 7 rfl rfl)
theorem dX8_forgetting_8 : decode cX8_forgetting 8 = .ok (.new 63, 3) := dk_187 0 63 (dk_at dksX8_forgetting_0 8 rfl rfl)
theorem dX8_forgetting_11 : decode cX8_forgetting 11 = .ok (.dup, 1) := dk_89 (dk_at dksX8_forgetting_0 11 rfl rfl)
theorem dX8_forgetting_12 : decode cX8_forgetting 12 = .ok (.aload_n 0, 1) := dk_42 (dk_at dksX8_forgetting_0 12 rfl rfl)
theorem dX8_forgetting_13 : decode cX8_forgetting 13 = .ok (.iload_n 1, 1) := dk_27 (dk_at dksX8_forgetting_0 13 rfl rfl)
theorem dX8_forgetting_14 : decode cX8_forgetting 14 = .ok (.invokespecial 65, 3) := dk_183 0 65 (dk_at dksX8_forgetting_0 14 rfl rfl)
theorem dX8_forgetting_17 : decode cX8_forgetting 17 = .ok (.areturn, 1) := dk_176 (dk_at dksX8_forgetting_0 17 rfl rfl)
abbrev cX8_weighing : ByteArray := prog_12_method_6_code
def yX8_weighing : MethodName := ⟨RX8, "weighing", "()LRoseProverbs$Deed;"⟩
def dkwX8_weighing_1 : List UInt8 := [183, 0, 70, 176]
abbrev dktX8_weighing_1 : List UInt8 := dkwX8_weighing_1 ++ []
def dkwX8_weighing_0 : List UInt8 := [42, 3, 16, 23, 182, 0, 46, 60, 42, 4, 17, 3, 231, 182, 0, 46, 61, 187, 0, 68, 89, 42, 27, 28]
abbrev dktX8_weighing_0 : List UInt8 := dkwX8_weighing_0 ++ dktX8_weighing_1
theorem dksX8_weighing_0 : cX8_weighing.data.toList.drop 0 = dktX8_weighing_0 := by decide +kernel
theorem dksX8_weighing_1 : cX8_weighing.data.toList.drop 24 = dktX8_weighing_1 := dk_seg dksX8_weighing_0 24 rfl rfl
theorem dX8_weighing_0 : decode cX8_weighing 0 = .ok (.aload_n 0, 1) := dk_42 (dk_at dksX8_weighing_0 0 rfl rfl)
theorem dX8_weighing_1 : decode cX8_weighing 1 = .ok (.iconst 0, 1) := dk_3 (dk_at dksX8_weighing_0 1 rfl rfl)
theorem dX8_weighing_2 : decode cX8_weighing 2 = .ok (.bipush 23, 2) := dk_16 23 (dk_at dksX8_weighing_0 2 rfl rfl)
theorem dX8_weighing_4 : decode cX8_weighing 4 = .ok (.invokevirtual 46, 3) := dk_182 0 46 (dk_at dksX8_weighing_0 4 rfl rfl)
theorem dX8_weighing_7 : decode cX8_weighing 7 = .ok (.istore_n 1, 1) := dk_60 (dk_at dksX8_weighing_0 7 rfl rfl)
theorem dX8_weighing_8 : decode cX8_weighing 8 = .ok (.aload_n 0, 1) := dk_42 (dk_at dksX8_weighing_0 8 rfl rfl)
theorem dX8_weighing_9 : decode cX8_weighing 9 = .ok (.iconst 1, 1) := dk_4 (dk_at dksX8_weighing_0 9 rfl rfl)
theorem dX8_weighing_10 : decode cX8_weighing 10 = .ok (.sipush 999, 3) := dk_17 3 231 (dk_at dksX8_weighing_0 10 rfl rfl)
theorem dX8_weighing_13 : decode cX8_weighing 13 = .ok (.invokevirtual 46, 3) := dk_182 0 46 (dk_at dksX8_weighing_0 13 rfl rfl)
theorem dX8_weighing_16 : decode cX8_weighing 16 = .ok (.istore_n 2, 1) := dk_61 (dk_at dksX8_weighing_0 16 rfl rfl)
theorem dX8_weighing_17 : decode cX8_weighing 17 = .ok (.new 68, 3) := dk_187 0 68 (dk_at dksX8_weighing_0 17 rfl rfl)
theorem dX8_weighing_20 : decode cX8_weighing 20 = .ok (.dup, 1) := dk_89 (dk_at dksX8_weighing_0 20 rfl rfl)
theorem dX8_weighing_21 : decode cX8_weighing 21 = .ok (.aload_n 0, 1) := dk_42 (dk_at dksX8_weighing_0 21 rfl rfl)
theorem dX8_weighing_22 : decode cX8_weighing 22 = .ok (.iload_n 1, 1) := dk_27 (dk_at dksX8_weighing_0 22 rfl rfl)
theorem dX8_weighing_23 : decode cX8_weighing 23 = .ok (.iload_n 2, 1) := dk_28 (dk_at dksX8_weighing_0 23 rfl rfl)
theorem dX8_weighing_24 : decode cX8_weighing 24 = .ok (.invokespecial 70, 3) := dk_183 0 70 (dk_at dksX8_weighing_1 0 rfl rfl)
theorem dX8_weighing_27 : decode cX8_weighing 27 = .ok (.areturn, 1) := dk_176 (dk_at dksX8_weighing_1 3 rfl rfl)
abbrev cX8_setting : ByteArray := prog_12_method_7_code
def yX8_setting : MethodName := ⟨RX8, "setting", "(Ljava/lang/String;)LRoseProverbs$Deed;"⟩
def dkwX8_setting_1 : List UInt8 := [183, 0, 77, 176]
abbrev dktX8_setting_1 : List UInt8 := dkwX8_setting_1 ++ []
def dkwX8_setting_0 : List UInt8 := [43, 184, 0, 42, 61, 42, 3, 28, 184, 0, 71, 182, 0, 46, 62, 187, 0, 75, 89, 42, 28, 29]
abbrev dktX8_setting_0 : List UInt8 := dkwX8_setting_0 ++ dktX8_setting_1
theorem dksX8_setting_0 : cX8_setting.data.toList.drop 0 = dktX8_setting_0 := by decide +kernel
theorem dksX8_setting_1 : cX8_setting.data.toList.drop 22 = dktX8_setting_1 := dk_seg dksX8_setting_0 22 rfl rfl
theorem dX8_setting_0 : decode cX8_setting 0 = .ok (.aload_n 1, 1) := dk_43 (dk_at dksX8_setting_0 0 rfl rfl)
theorem dX8_setting_1 : decode cX8_setting 1 = .ok (.invokestatic 42, 3) := dk_184 0 42 (dk_at dksX8_setting_0 1 rfl rfl)
theorem dX8_setting_4 : decode cX8_setting 4 = .ok (.istore_n 2, 1) := dk_61 (dk_at dksX8_setting_0 4 rfl rfl)
theorem dX8_setting_5 : decode cX8_setting 5 = .ok (.aload_n 0, 1) := dk_42 (dk_at dksX8_setting_0 5 rfl rfl)
theorem dX8_setting_6 : decode cX8_setting 6 = .ok (.iconst 0, 1) := dk_3 (dk_at dksX8_setting_0 6 rfl rfl)
theorem dX8_setting_7 : decode cX8_setting 7 = .ok (.iload_n 2, 1) := dk_28 (dk_at dksX8_setting_0 7 rfl rfl)
theorem dX8_setting_8 : decode cX8_setting 8 = .ok (.invokestatic 71, 3) := dk_184 0 71 (dk_at dksX8_setting_0 8 rfl rfl)
theorem dX8_setting_11 : decode cX8_setting 11 = .ok (.invokevirtual 46, 3) := dk_182 0 46 (dk_at dksX8_setting_0 11 rfl rfl)
theorem dX8_setting_14 : decode cX8_setting 14 = .ok (.istore_n 3, 1) := dk_62 (dk_at dksX8_setting_0 14 rfl rfl)
theorem dX8_setting_15 : decode cX8_setting 15 = .ok (.new 75, 3) := dk_187 0 75 (dk_at dksX8_setting_0 15 rfl rfl)
theorem dX8_setting_18 : decode cX8_setting 18 = .ok (.dup, 1) := dk_89 (dk_at dksX8_setting_0 18 rfl rfl)
theorem dX8_setting_19 : decode cX8_setting 19 = .ok (.aload_n 0, 1) := dk_42 (dk_at dksX8_setting_0 19 rfl rfl)
theorem dX8_setting_20 : decode cX8_setting 20 = .ok (.iload_n 2, 1) := dk_28 (dk_at dksX8_setting_0 20 rfl rfl)
theorem dX8_setting_21 : decode cX8_setting 21 = .ok (.iload_n 3, 1) := dk_29 (dk_at dksX8_setting_0 21 rfl rfl)
theorem dX8_setting_22 : decode cX8_setting 22 = .ok (.invokespecial 77, 3) := dk_183 0 77 (dk_at dksX8_setting_1 0 rfl rfl)
theorem dX8_setting_25 : decode cX8_setting 25 = .ok (.areturn, 1) := dk_176 (dk_at dksX8_setting_1 3 rfl rfl)
theorem q172 : (Jvm.Cond.initialized "RoseProverbs$Script") ∈ lw_all := lw_g (lw_at lw_m1 40 rfl) rfl
theorem q783 : (Jvm.Cond.selects "RoseProverbs$Script" ({ cls := "java/lang/Object", name := "getClass", desc := "()Ljava/lang/Class;" } : Jvm.MethodName) ({ cls := "java/lang/Object", name := "getClass", desc := "()Ljava/lang/Class;" } : Jvm.MethodName)) ∈ lw_all := lw_g (lw_at lw_m3 171 rfl) rfl
theorem q1270 : (Jvm.Cond.selects "RoseProverbs$Script" ({ cls := "RoseProverbs$Parser", name := "advance", desc := "()V" } : Jvm.MethodName) ({ cls := "RoseProverbs$Parser", name := "advance", desc := "()V" } : Jvm.MethodName)) ∈ lw_all := lw_g (lw_at lw_m5 178 rfl) rfl
theorem q1501 : (Jvm.Cond.selects "RoseProverbs$Script" ({ cls := "RoseProverbs$Parser", name := "number", desc := "(II)I" } : Jvm.MethodName) ({ cls := "RoseProverbs$Parser", name := "number", desc := "(II)I" } : Jvm.MethodName)) ∈ lw_all := lw_g (lw_at lw_m6 169 rfl) rfl
theorem q1630 : (Jvm.Cond.instantiable "RoseProverbs$Script" (8 : Nat)) ∈ lw_all := lw_g (lw_at lw_m7 58 rfl) rfl
theorem q1632 : (Jvm.Cond.instanceMethod ({ cls := "RoseProverbs$Script", name := "<init>", desc := "(LRoseProverbs;)V" } : Jvm.MethodName)) ∈ lw_all := lw_g (lw_at lw_m7 60 rfl) rfl
theorem q1633 : (Jvm.Cond.code ({ cls := "RoseProverbs$Script", name := "<init>", desc := "(LRoseProverbs;)V" } : Jvm.MethodName) prog_12_method_1_code (2 : Nat) (Option.none : Option Jvm.ClassFile.FieldType)) ∈ lw_all := lw_g (lw_at lw_m7 61 rfl) rfl
theorem q1634 : (Jvm.Cond.methodLink "RoseProverbs$Script" (9 : Nat) ({ cls := "RoseProverbs$Parser", name := "<init>", desc := "(LRoseProverbs;)V" } : Jvm.MethodName)) ∈ lw_all := lw_g (lw_at lw_m7 62 rfl) rfl
theorem q1635 : (Jvm.Cond.classLink "RoseProverbs$Script" (15 : Nat) "java/util/ArrayList") ∈ lw_all := lw_g (lw_at lw_m7 63 rfl) rfl
theorem q1636 : (Jvm.Cond.methodLink "RoseProverbs$Script" (17 : Nat) ({ cls := "java/util/ArrayList", name := "<init>", desc := "(I)V" } : Jvm.MethodName)) ∈ lw_all := lw_g (lw_at lw_m7 64 rfl) rfl
theorem q1637 : (Jvm.Cond.fieldLink "RoseProverbs$Script" (20 : Nat) "RoseProverbs$Script" "deeds" "Ljava/util/List;") ∈ lw_all := lw_g (lw_at lw_m7 65 rfl) rfl
theorem q1638 : (Jvm.Cond.fieldLink "RoseProverbs$Script" (3 : Nat) "RoseProverbs$Script" "this$0" "LRoseProverbs;") ∈ lw_all := lw_g (lw_at lw_m7 66 rfl) rfl
theorem q1639 : (Jvm.Cond.laysFinal "RoseProverbs$Script" "RoseProverbs$Script" "deeds" "Ljava/util/List;") ∈ lw_all := lw_g (lw_at lw_m7 67 rfl) rfl
theorem q1640 : (Jvm.Cond.soleField "RoseProverbs$Script" "deeds") ∈ lw_all := lw_g (lw_at lw_m7 68 rfl) rfl
theorem q1641 : (Jvm.Cond.laysFinal "RoseProverbs$Script" "RoseProverbs$Script" "this$0" "LRoseProverbs;") ∈ lw_all := lw_g (lw_at lw_m7 69 rfl) rfl
theorem q1642 : (Jvm.Cond.soleField "RoseProverbs$Script" "this$0") ∈ lw_all := lw_g (lw_at lw_m7 70 rfl) rfl
theorem q1643 : (Jvm.Cond.lays "RoseProverbs$Script" "RoseProverbs$Parser" "start" "I") ∈ lw_all := lw_g (lw_at lw_m7 71 rfl) rfl
theorem q1644 : (Jvm.Cond.lays "RoseProverbs$Script" "RoseProverbs$Parser" "next" "I") ∈ lw_all := lw_g (lw_at lw_m7 72 rfl) rfl
theorem q1645 : (Jvm.Cond.lays "RoseProverbs$Script" "RoseProverbs$Parser" "token" "I") ∈ lw_all := lw_g (lw_at lw_m7 73 rfl) rfl
theorem q1646 : (Jvm.Cond.lays "RoseProverbs$Script" "RoseProverbs$Parser" "value" "I") ∈ lw_all := lw_g (lw_at lw_m7 74 rfl) rfl
theorem q1647 : (Jvm.Cond.lays "RoseProverbs$Script" "RoseProverbs$Parser" "word" "Ljava/lang/String;") ∈ lw_all := lw_g (lw_at lw_m7 75 rfl) rfl
theorem q1648 : (Jvm.Cond.laysFinal "RoseProverbs$Script" "RoseProverbs$Parser" "this$0" "LRoseProverbs;") ∈ lw_all := lw_g (lw_at lw_m7 76 rfl) rfl
theorem q1649 : (Jvm.Cond.superclass "RoseProverbs$Script" "RoseProverbs$Parser") ∈ lw_all := lw_g (lw_at lw_m7 77 rfl) rfl
theorem q1651 : (Jvm.Cond.instanceMethod ({ cls := "RoseProverbs$Script", name := "read", desc := "()Ljava/util/List;" } : Jvm.MethodName)) ∈ lw_all := lw_g (lw_at lw_m7 79 rfl) rfl
theorem q1652 : (Jvm.Cond.selects "RoseProverbs$Script" ({ cls := "RoseProverbs$Script", name := "read", desc := "()Ljava/util/List;" } : Jvm.MethodName) ({ cls := "RoseProverbs$Script", name := "read", desc := "()Ljava/util/List;" } : Jvm.MethodName)) ∈ lw_all := lw_g (lw_at lw_m7 80 rfl) rfl
theorem q1653 : (Jvm.Cond.code ({ cls := "RoseProverbs$Script", name := "read", desc := "()Ljava/util/List;" } : Jvm.MethodName) prog_12_method_9_code (3 : Nat) (Option.some (Jvm.ClassFile.FieldType.object "java/util/List"))) ∈ lw_all := lw_g (lw_at lw_m7 81 rfl) rfl
theorem q1654 : (Jvm.Cond.methodLink "RoseProverbs$Script" (95 : Nat) ({ cls := "RoseProverbs$Script", name := "isOver", desc := "()Z" } : Jvm.MethodName)) ∈ lw_all := lw_g (lw_at lw_m7 82 rfl) rfl
theorem q1655 : (Jvm.Cond.sameMethod "RoseProverbs$Script" "RoseProverbs$Parser" "isOver" "()Z") ∈ lw_all := lw_g (lw_at lw_m7 83 rfl) rfl
theorem q1656 : (Jvm.Cond.selects "RoseProverbs$Script" ({ cls := "RoseProverbs$Script", name := "isOver", desc := "()Z" } : Jvm.MethodName) ({ cls := "RoseProverbs$Parser", name := "isOver", desc := "()Z" } : Jvm.MethodName)) ∈ lw_all := lw_g (lw_at lw_m7 84 rfl) rfl
theorem q1657 : (Jvm.Cond.methodLink "RoseProverbs$Script" (99 : Nat) ({ cls := "RoseProverbs$Script", name := "word", desc := "()Ljava/lang/String;" } : Jvm.MethodName)) ∈ lw_all := lw_g (lw_at lw_m7 85 rfl) rfl
theorem q1658 : (Jvm.Cond.sameMethod "RoseProverbs$Script" "RoseProverbs$Parser" "word" "()Ljava/lang/String;") ∈ lw_all := lw_g (lw_at lw_m7 86 rfl) rfl
theorem q1659 : (Jvm.Cond.selects "RoseProverbs$Script" ({ cls := "RoseProverbs$Script", name := "word", desc := "()Ljava/lang/String;" } : Jvm.MethodName) ({ cls := "RoseProverbs$Parser", name := "word", desc := "()Ljava/lang/String;" } : Jvm.MethodName)) ∈ lw_all := lw_g (lw_at lw_m7 87 rfl) rfl
theorem q1660 : (Jvm.Cond.methodLink "RoseProverbs$Script" (103 : Nat) ({ cls := "RoseProverbs$Script", name := "isDeed", desc := "(Ljava/lang/String;)Z" } : Jvm.MethodName)) ∈ lw_all := lw_g (lw_at lw_m7 88 rfl) rfl
theorem q1661 : (Jvm.Cond.privateMethod ({ cls := "RoseProverbs$Script", name := "isDeed", desc := "(Ljava/lang/String;)Z" } : Jvm.MethodName)) ∈ lw_tbl := lw_at lw_m7 89 rfl
theorem q1662 : (Jvm.Cond.instanceMethod ({ cls := "RoseProverbs$Script", name := "isDeed", desc := "(Ljava/lang/String;)Z" } : Jvm.MethodName)) ∈ lw_all := lw_g (lw_at lw_m7 90 rfl) rfl
theorem q1663 : (Jvm.Cond.code ({ cls := "RoseProverbs$Script", name := "isDeed", desc := "(Ljava/lang/String;)Z" } : Jvm.MethodName) prog_12_method_2_code (4 : Nat) (Option.some Jvm.ClassFile.FieldType.boolean)) ∈ lw_all := lw_g (lw_at lw_m7 91 rfl) rfl
theorem q1664 : (Jvm.Cond.methodLink "RoseProverbs$Script" (24 : Nat) ({ cls := "java/lang/String", name := "hashCode", desc := "()I" } : Jvm.MethodName)) ∈ lw_all := lw_g (lw_at lw_m7 92 rfl) rfl
theorem q1665 : (Jvm.Cond.stringRef "RoseProverbs$Script" (30 : Nat) "day") ∈ lw_tbl := lw_at lw_m7 93 rfl
theorem q1666 : (Jvm.Cond.methodLink "RoseProverbs$Script" (32 : Nat) ({ cls := "java/lang/String", name := "equals", desc := "(Ljava/lang/Object;)Z" } : Jvm.MethodName)) ∈ lw_all := lw_g (lw_at lw_m7 94 rfl) rfl
theorem q1667 : (Jvm.Cond.stringRef "RoseProverbs$Script" (36 : Nat) "proverb") ∈ lw_tbl := lw_at lw_m7 95 rfl
theorem q1668 : (Jvm.Cond.stringRef "RoseProverbs$Script" (38 : Nat) "forget") ∈ lw_tbl := lw_at lw_m7 96 rfl
theorem q1669 : (Jvm.Cond.stringRef "RoseProverbs$Script" (40 : Nat) "weigh") ∈ lw_tbl := lw_at lw_m7 97 rfl
theorem q1670 : (Jvm.Cond.methodLinkNest "RoseProverbs$Script" (42 : Nat) ({ cls := "RoseProverbs", name := "settingOf", desc := "(Ljava/lang/String;)I" } : Jvm.MethodName) "RoseProverbs") ∈ lw_tbl := lw_at lw_m7 98 rfl
theorem q1671 : (Jvm.Cond.methodLink "RoseProverbs$Script" (107 : Nat) ({ cls := "RoseProverbs$Script", name := "expect", desc := "(ZI)V" } : Jvm.MethodName)) ∈ lw_all := lw_g (lw_at lw_m7 99 rfl) rfl
theorem q1672 : (Jvm.Cond.sameMethod "RoseProverbs$Script" "RoseProverbs$Parser" "expect" "(ZI)V") ∈ lw_all := lw_g (lw_at lw_m7 100 rfl) rfl
theorem q1673 : (Jvm.Cond.selects "RoseProverbs$Script" ({ cls := "RoseProverbs$Script", name := "expect", desc := "(ZI)V" } : Jvm.MethodName) ({ cls := "RoseProverbs$Parser", name := "expect", desc := "(ZI)V" } : Jvm.MethodName)) ∈ lw_all := lw_g (lw_at lw_m7 101 rfl) rfl
theorem q1674 : (Jvm.Cond.interfaceEntry "RoseProverbs$Script" (111 : Nat)) ∈ lw_tbl := lw_at lw_m7 102 rfl
theorem q1675 : (Jvm.Cond.methodLink "RoseProverbs$Script" (111 : Nat) ({ cls := "java/util/List", name := "size", desc := "()I" } : Jvm.MethodName)) ∈ lw_all := lw_g (lw_at lw_m7 103 rfl) rfl
theorem q1676 : (Jvm.Cond.methodLink "RoseProverbs$Script" (116 : Nat) ({ cls := "RoseProverbs$Script", name := "advance", desc := "()V" } : Jvm.MethodName)) ∈ lw_all := lw_g (lw_at lw_m7 104 rfl) rfl
theorem q1677 : (Jvm.Cond.sameMethod "RoseProverbs$Script" "RoseProverbs$Parser" "advance" "()V") ∈ lw_all := lw_g (lw_at lw_m7 105 rfl) rfl
theorem q1678 : (Jvm.Cond.selects "RoseProverbs$Script" ({ cls := "RoseProverbs$Script", name := "advance", desc := "()V" } : Jvm.MethodName) ({ cls := "RoseProverbs$Parser", name := "advance", desc := "()V" } : Jvm.MethodName)) ∈ lw_all := lw_g (lw_at lw_m7 106 rfl) rfl
theorem q1679 : (Jvm.Cond.methodLink "RoseProverbs$Script" (120 : Nat) ({ cls := "RoseProverbs$Script", name := "deed", desc := "(Ljava/lang/String;)LRoseProverbs$Deed;" } : Jvm.MethodName)) ∈ lw_all := lw_g (lw_at lw_m7 107 rfl) rfl
theorem q1680 : (Jvm.Cond.privateMethod ({ cls := "RoseProverbs$Script", name := "deed", desc := "(Ljava/lang/String;)LRoseProverbs$Deed;" } : Jvm.MethodName)) ∈ lw_tbl := lw_at lw_m7 108 rfl
theorem q1681 : (Jvm.Cond.instanceMethod ({ cls := "RoseProverbs$Script", name := "deed", desc := "(Ljava/lang/String;)LRoseProverbs$Deed;" } : Jvm.MethodName)) ∈ lw_all := lw_g (lw_at lw_m7 109 rfl) rfl
theorem q1682 : (Jvm.Cond.code ({ cls := "RoseProverbs$Script", name := "deed", desc := "(Ljava/lang/String;)LRoseProverbs$Deed;" } : Jvm.MethodName) prog_12_method_8_code (4 : Nat) (Option.some (Jvm.ClassFile.FieldType.object "RoseProverbs$Deed"))) ∈ lw_all := lw_g (lw_at lw_m7 110 rfl) rfl
theorem q1683 : (Jvm.Cond.methodLink "RoseProverbs$Script" (78 : Nat) ({ cls := "RoseProverbs$Script", name := "living", desc := "()LRoseProverbs$Deed;" } : Jvm.MethodName)) ∈ lw_all := lw_g (lw_at lw_m7 111 rfl) rfl
theorem q1684 : (Jvm.Cond.privateMethod ({ cls := "RoseProverbs$Script", name := "living", desc := "()LRoseProverbs$Deed;" } : Jvm.MethodName)) ∈ lw_tbl := lw_at lw_m7 112 rfl
theorem q1685 : (Jvm.Cond.instanceMethod ({ cls := "RoseProverbs$Script", name := "living", desc := "()LRoseProverbs$Deed;" } : Jvm.MethodName)) ∈ lw_all := lw_g (lw_at lw_m7 113 rfl) rfl
theorem q1686 : (Jvm.Cond.code ({ cls := "RoseProverbs$Script", name := "living", desc := "()LRoseProverbs$Deed;" } : Jvm.MethodName) prog_12_method_3_code (3 : Nat) (Option.some (Jvm.ClassFile.FieldType.object "RoseProverbs$Deed"))) ∈ lw_all := lw_g (lw_at lw_m7 114 rfl) rfl
theorem q1687 : (Jvm.Cond.methodLink "RoseProverbs$Script" (46 : Nat) ({ cls := "RoseProverbs$Script", name := "number", desc := "(II)I" } : Jvm.MethodName)) ∈ lw_all := lw_g (lw_at lw_m7 115 rfl) rfl
theorem q1688 : (Jvm.Cond.sameMethod "RoseProverbs$Script" "RoseProverbs$Parser" "number" "(II)I") ∈ lw_all := lw_g (lw_at lw_m7 116 rfl) rfl
theorem q1689 : (Jvm.Cond.selects "RoseProverbs$Script" ({ cls := "RoseProverbs$Script", name := "number", desc := "(II)I" } : Jvm.MethodName) ({ cls := "RoseProverbs$Parser", name := "number", desc := "(II)I" } : Jvm.MethodName)) ∈ lw_all := lw_g (lw_at lw_m7 117 rfl) rfl
theorem q1690 : (Jvm.Cond.classLink "RoseProverbs$Script" (50 : Nat) "RoseProverbs$Script$1") ∈ lw_all := lw_g (lw_at lw_m7 118 rfl) rfl
theorem q1692 : (Jvm.Cond.methodLink "RoseProverbs$Script" (52 : Nat) ({ cls := "RoseProverbs$Script$1", name := "<init>", desc := "(LRoseProverbs$Script;II)V" } : Jvm.MethodName)) ∈ lw_all := lw_g (lw_at lw_m7 120 rfl) rfl
theorem q1709 : (Jvm.Cond.methodLink "RoseProverbs$Script" (82 : Nat) ({ cls := "RoseProverbs$Script", name := "coming", desc := "()LRoseProverbs$Deed;" } : Jvm.MethodName)) ∈ lw_all := lw_g (lw_at lw_m7 137 rfl) rfl
theorem q1710 : (Jvm.Cond.privateMethod ({ cls := "RoseProverbs$Script", name := "coming", desc := "()LRoseProverbs$Deed;" } : Jvm.MethodName)) ∈ lw_tbl := lw_at lw_m7 138 rfl
theorem q1711 : (Jvm.Cond.instanceMethod ({ cls := "RoseProverbs$Script", name := "coming", desc := "()LRoseProverbs$Deed;" } : Jvm.MethodName)) ∈ lw_all := lw_g (lw_at lw_m7 139 rfl) rfl
theorem q1712 : (Jvm.Cond.code ({ cls := "RoseProverbs$Script", name := "coming", desc := "()LRoseProverbs$Deed;" } : Jvm.MethodName) prog_12_method_4_code (2 : Nat) (Option.some (Jvm.ClassFile.FieldType.object "RoseProverbs$Deed"))) ∈ lw_all := lw_g (lw_at lw_m7 140 rfl) rfl
theorem q1713 : (Jvm.Cond.methodLink "RoseProverbs$Script" (55 : Nat) ({ cls := "RoseProverbs$Script", name := "proverb", desc := "()[I" } : Jvm.MethodName)) ∈ lw_all := lw_g (lw_at lw_m7 141 rfl) rfl
theorem q1714 : (Jvm.Cond.sameMethod "RoseProverbs$Script" "RoseProverbs$Parser" "proverb" "()[I") ∈ lw_all := lw_g (lw_at lw_m7 142 rfl) rfl
theorem q1715 : (Jvm.Cond.selects "RoseProverbs$Script" ({ cls := "RoseProverbs$Script", name := "proverb", desc := "()[I" } : Jvm.MethodName) ({ cls := "RoseProverbs$Parser", name := "proverb", desc := "()[I" } : Jvm.MethodName)) ∈ lw_all := lw_g (lw_at lw_m7 143 rfl) rfl
theorem q1716 : (Jvm.Cond.classLink "RoseProverbs$Script" (58 : Nat) "RoseProverbs$Script$1Coming") ∈ lw_all := lw_g (lw_at lw_m7 144 rfl) rfl
theorem q1718 : (Jvm.Cond.methodLink "RoseProverbs$Script" (60 : Nat) ({ cls := "RoseProverbs$Script$1Coming", name := "<init>", desc := "(LRoseProverbs$Script;[I)V" } : Jvm.MethodName)) ∈ lw_all := lw_g (lw_at lw_m7 146 rfl) rfl
theorem q1729 : (Jvm.Cond.methodLink "RoseProverbs$Script" (85 : Nat) ({ cls := "RoseProverbs$Script", name := "forgetting", desc := "()LRoseProverbs$Deed;" } : Jvm.MethodName)) ∈ lw_all := lw_g (lw_at lw_m7 157 rfl) rfl
theorem q1730 : (Jvm.Cond.privateMethod ({ cls := "RoseProverbs$Script", name := "forgetting", desc := "()LRoseProverbs$Deed;" } : Jvm.MethodName)) ∈ lw_tbl := lw_at lw_m7 158 rfl
theorem q1731 : (Jvm.Cond.instanceMethod ({ cls := "RoseProverbs$Script", name := "forgetting", desc := "()LRoseProverbs$Deed;" } : Jvm.MethodName)) ∈ lw_all := lw_g (lw_at lw_m7 159 rfl) rfl
theorem q1732 : (Jvm.Cond.code ({ cls := "RoseProverbs$Script", name := "forgetting", desc := "()LRoseProverbs$Deed;" } : Jvm.MethodName) prog_12_method_5_code (2 : Nat) (Option.some (Jvm.ClassFile.FieldType.object "RoseProverbs$Deed"))) ∈ lw_all := lw_g (lw_at lw_m7 160 rfl) rfl
theorem q1733 : (Jvm.Cond.classLink "RoseProverbs$Script" (63 : Nat) "RoseProverbs$Script$2") ∈ lw_all := lw_g (lw_at lw_m7 161 rfl) rfl
theorem q1735 : (Jvm.Cond.methodLink "RoseProverbs$Script" (65 : Nat) ({ cls := "RoseProverbs$Script$2", name := "<init>", desc := "(LRoseProverbs$Script;I)V" } : Jvm.MethodName)) ∈ lw_all := lw_g (lw_at lw_m7 163 rfl) rfl
theorem q1746 : (Jvm.Cond.methodLink "RoseProverbs$Script" (88 : Nat) ({ cls := "RoseProverbs$Script", name := "weighing", desc := "()LRoseProverbs$Deed;" } : Jvm.MethodName)) ∈ lw_all := lw_g (lw_at lw_m7 174 rfl) rfl
theorem q1747 : (Jvm.Cond.privateMethod ({ cls := "RoseProverbs$Script", name := "weighing", desc := "()LRoseProverbs$Deed;" } : Jvm.MethodName)) ∈ lw_tbl := lw_at lw_m7 175 rfl
theorem q1748 : (Jvm.Cond.instanceMethod ({ cls := "RoseProverbs$Script", name := "weighing", desc := "()LRoseProverbs$Deed;" } : Jvm.MethodName)) ∈ lw_all := lw_g (lw_at lw_m7 176 rfl) rfl
theorem q1749 : (Jvm.Cond.code ({ cls := "RoseProverbs$Script", name := "weighing", desc := "()LRoseProverbs$Deed;" } : Jvm.MethodName) prog_12_method_6_code (3 : Nat) (Option.some (Jvm.ClassFile.FieldType.object "RoseProverbs$Deed"))) ∈ lw_all := lw_g (lw_at lw_m7 177 rfl) rfl
theorem q1750 : (Jvm.Cond.classLink "RoseProverbs$Script" (68 : Nat) "RoseProverbs$Script$3") ∈ lw_all := lw_g (lw_at lw_m7 178 rfl) rfl
theorem q1752 : (Jvm.Cond.methodLink "RoseProverbs$Script" (70 : Nat) ({ cls := "RoseProverbs$Script$3", name := "<init>", desc := "(LRoseProverbs$Script;II)V" } : Jvm.MethodName)) ∈ lw_all := lw_g (lw_at lw_m7 180 rfl) rfl
theorem q1766 : (Jvm.Cond.methodLink "RoseProverbs$Script" (91 : Nat) ({ cls := "RoseProverbs$Script", name := "setting", desc := "(Ljava/lang/String;)LRoseProverbs$Deed;" } : Jvm.MethodName)) ∈ lw_all := lw_g (lw_at lw_m7 194 rfl) rfl
theorem q1767 : (Jvm.Cond.privateMethod ({ cls := "RoseProverbs$Script", name := "setting", desc := "(Ljava/lang/String;)LRoseProverbs$Deed;" } : Jvm.MethodName)) ∈ lw_tbl := lw_at lw_m7 195 rfl
theorem q1768 : (Jvm.Cond.instanceMethod ({ cls := "RoseProverbs$Script", name := "setting", desc := "(Ljava/lang/String;)LRoseProverbs$Deed;" } : Jvm.MethodName)) ∈ lw_all := lw_g (lw_at lw_m7 196 rfl) rfl
theorem q1769 : (Jvm.Cond.code ({ cls := "RoseProverbs$Script", name := "setting", desc := "(Ljava/lang/String;)LRoseProverbs$Deed;" } : Jvm.MethodName) prog_12_method_7_code (4 : Nat) (Option.some (Jvm.ClassFile.FieldType.object "RoseProverbs$Deed"))) ∈ lw_all := lw_g (lw_at lw_m7 197 rfl) rfl
theorem q1770 : (Jvm.Cond.methodLinkNest "RoseProverbs$Script" (71 : Nat) ({ cls := "RoseProverbs", name := "bound", desc := "(I)I" } : Jvm.MethodName) "RoseProverbs") ∈ lw_tbl := lw_at lw_m7 198 rfl
theorem q1771 : (Jvm.Cond.classLink "RoseProverbs$Script" (75 : Nat) "RoseProverbs$Script$4") ∈ lw_all := lw_g (lw_at lw_m7 199 rfl) rfl
theorem q1773 : (Jvm.Cond.methodLink "RoseProverbs$Script" (77 : Nat) ({ cls := "RoseProverbs$Script$4", name := "<init>", desc := "(LRoseProverbs$Script;II)V" } : Jvm.MethodName)) ∈ lw_all := lw_g (lw_at lw_m7 201 rfl) rfl
theorem q1787 : (Jvm.Cond.interfaceEntry "RoseProverbs$Script" (123 : Nat)) ∈ lw_tbl := lw_at lw_m7 215 rfl
theorem q1788 : (Jvm.Cond.methodLink "RoseProverbs$Script" (123 : Nat) ({ cls := "java/util/List", name := "add", desc := "(Ljava/lang/Object;)Z" } : Jvm.MethodName)) ∈ lw_all := lw_g (lw_at lw_m7 216 rfl) rfl
theorem q1789 : (Jvm.Cond.methodLink "RoseProverbs$Script" (126 : Nat) ({ cls := "RoseProverbs$Script", name := "end", desc := "()V" } : Jvm.MethodName)) ∈ lw_all := lw_g (lw_at lw_m7 217 rfl) rfl
theorem q1790 : (Jvm.Cond.sameMethod "RoseProverbs$Script" "RoseProverbs$Parser" "end" "()V") ∈ lw_all := lw_g (lw_at lw_m7 218 rfl) rfl
theorem q1791 : (Jvm.Cond.selects "RoseProverbs$Script" ({ cls := "RoseProverbs$Script", name := "end", desc := "()V" } : Jvm.MethodName) ({ cls := "RoseProverbs$Parser", name := "end", desc := "()V" } : Jvm.MethodName)) ∈ lw_all := lw_g (lw_at lw_m7 219 rfl) rfl
theorem q3574 : (Jvm.Cond.selects "RoseProverbs$Script" ({ cls := "RoseProverbs$Parser", name := "expect", desc := "(ZI)V" } : Jvm.MethodName) ({ cls := "RoseProverbs$Parser", name := "expect", desc := "(ZI)V" } : Jvm.MethodName)) ∈ lw_all := lw_g (lw_at lw_m15 82 rfl) rfl
theorem q3608 : (Jvm.Cond.castable "RoseProverbs$Script" "java/lang/Object") ∈ lw_tbl := lw_at lw_m15 116 rfl
theorem in_X8 : ∀ w ∈ wsX80, w ∈ lw_all := lw_in wsX80 [1643, 1644, 1645, 1646, 1647, 1648, 1639, 1641] (by decide +kernel) (by decide +kernel)
/-! RoseProverbs$Deed -/
set_option maxRecDepth 100000
def RX9 : String := "RoseProverbs$Deed"
abbrev cX9_init : ByteArray := prog_2_method_1_code
def yX9_init : MethodName := ⟨RX9, "<init>", "()V"⟩
theorem dX9_init_0 : decode cX9_init 0 = .ok (.aload_n 0, 1) := by decide +kernel
theorem dX9_init_1 : decode cX9_init 1 = .ok (.invokespecial 1, 3) := by decide +kernel
theorem dX9_init_4 : decode cX9_init 4 = .ok (.return_, 1) := by decide +kernel
theorem q173 : (Jvm.Cond.initialized "RoseProverbs$Deed") ∈ lw_all := lw_g (lw_at lw_m1 41 rfl) rfl
theorem q1696 : (Jvm.Cond.instanceMethod ({ cls := "RoseProverbs$Deed", name := "<init>", desc := "()V" } : Jvm.MethodName)) ∈ lw_all := lw_g (lw_at lw_m7 124 rfl) rfl
theorem q1697 : (Jvm.Cond.code ({ cls := "RoseProverbs$Deed", name := "<init>", desc := "()V" } : Jvm.MethodName) prog_2_method_1_code (1 : Nat) (Option.none : Option Jvm.ClassFile.FieldType)) ∈ lw_all := lw_g (lw_at lw_m7 125 rfl) rfl
theorem q1698 : (Jvm.Cond.methodLink "RoseProverbs$Deed" (1 : Nat) ({ cls := "java/lang/Object", name := "<init>", desc := "()V" } : Jvm.MethodName)) ∈ lw_all := lw_g (lw_at lw_m7 126 rfl) rfl
theorem q1878 : (Jvm.Cond.declares ({ cls := "RoseProverbs$Deed", name := "does", desc := "(LRoseProverbs$Rose;)Z" } : Jvm.MethodName)) ∈ lw_tbl := lw_at lw_m8 66 rfl
theorem q1879 : (Jvm.Cond.sameMethod "RoseProverbs$Deed" "RoseProverbs$Deed" "does" "(LRoseProverbs$Rose;)Z") ∈ lw_all := lw_g (lw_at lw_m8 67 rfl) rfl
/-! RoseProverbs$Script$1 -/
set_option maxRecDepth 100000
def RX10 : String := "RoseProverbs$Script$1"
def TX10 : u_T := fun k => match k with
  | 0 => ("RoseProverbs$Script$1", "val$wind", "I", true)
  | 1 => ("RoseProverbs$Script$1", "val$weather", "I", true)
  | _ => ("RoseProverbs$Script$1", "this$1", "LRoseProverbs$Script;", true)
def tyX10 : Nat → FieldType := fun k => match k with
  | 0 => .int
  | 1 => .int
  | _ => .object "RoseProverbs$Script"
abbrev wsX100 : List Cond := u_ws RX10 TX10 3
theorem nmX10 : ∀ a, a < 3 → ∀ b, b < 3 → a ≠ b → (TX10 a).2.1 ≠ (TX10 b).2.1 := by decide +kernel
theorem tyX10_ok : ∀ k, k < 3 → parseFieldDescriptor (TX10 k).2.2.1 = some (tyX10 k) := by decide +kernel
abbrev cX10_init : ByteArray := prog_13_method_1_code
def yX10_init : MethodName := ⟨RX10, "<init>", "(LRoseProverbs$Script;II)V"⟩
def dkwX10_init_0 : List UInt8 := [42, 43, 181, 0, 3, 42, 28, 181, 0, 9, 42, 29, 181, 0, 13, 42, 183, 0, 16, 177]
abbrev dktX10_init_0 : List UInt8 := dkwX10_init_0 ++ []
theorem dksX10_init_0 : cX10_init.data.toList.drop 0 = dktX10_init_0 := by decide +kernel
theorem dX10_init_0 : decode cX10_init 0 = .ok (.aload_n 0, 1) := dk_42 (dk_at dksX10_init_0 0 rfl rfl)
theorem dX10_init_1 : decode cX10_init 1 = .ok (.aload_n 1, 1) := dk_43 (dk_at dksX10_init_0 1 rfl rfl)
theorem dX10_init_2 : decode cX10_init 2 = .ok (.putfield 3, 3) := dk_181 0 3 (dk_at dksX10_init_0 2 rfl rfl)
theorem dX10_init_5 : decode cX10_init 5 = .ok (.aload_n 0, 1) := dk_42 (dk_at dksX10_init_0 5 rfl rfl)
theorem dX10_init_6 : decode cX10_init 6 = .ok (.iload_n 2, 1) := dk_28 (dk_at dksX10_init_0 6 rfl rfl)
theorem dX10_init_7 : decode cX10_init 7 = .ok (.putfield 9, 3) := dk_181 0 9 (dk_at dksX10_init_0 7 rfl rfl)
theorem dX10_init_10 : decode cX10_init 10 = .ok (.aload_n 0, 1) := dk_42 (dk_at dksX10_init_0 10 rfl rfl)
theorem dX10_init_11 : decode cX10_init 11 = .ok (.iload_n 3, 1) := dk_29 (dk_at dksX10_init_0 11 rfl rfl)
theorem dX10_init_12 : decode cX10_init 12 = .ok (.putfield 13, 3) := dk_181 0 13 (dk_at dksX10_init_0 12 rfl rfl)
theorem dX10_init_15 : decode cX10_init 15 = .ok (.aload_n 0, 1) := dk_42 (dk_at dksX10_init_0 15 rfl rfl)
theorem dX10_init_16 : decode cX10_init 16 = .ok (.invokespecial 16, 3) := dk_183 0 16 (dk_at dksX10_init_0 16 rfl rfl)
theorem dX10_init_19 : decode cX10_init 19 = .ok (.return_, 1) := dk_177 (dk_at dksX10_init_0 19 rfl rfl)
abbrev cX10_does : ByteArray := prog_13_method_2_code
def yX10_does : MethodName := ⟨RX10, "does", "(LRoseProverbs$Rose;)Z"⟩
def dkwX10_does_1 : List UInt8 := [161, 0, 7, 4, 167, 0, 4, 3, 172]
abbrev dktX10_does_1 : List UInt8 := dkwX10_does_1 ++ []
def dkwX10_does_0 : List UInt8 := [43, 180, 0, 22, 17, 2, 208, 162, 0, 23, 43, 42, 180, 0, 9, 42, 180, 0, 13, 182, 0, 27, 2]
abbrev dktX10_does_0 : List UInt8 := dkwX10_does_0 ++ dktX10_does_1
theorem dksX10_does_0 : cX10_does.data.toList.drop 0 = dktX10_does_0 := by decide +kernel
theorem dksX10_does_1 : cX10_does.data.toList.drop 23 = dktX10_does_1 := dk_seg dksX10_does_0 23 rfl rfl
theorem dX10_does_0 : decode cX10_does 0 = .ok (.aload_n 1, 1) := dk_43 (dk_at dksX10_does_0 0 rfl rfl)
theorem dX10_does_1 : decode cX10_does 1 = .ok (.getfield 22, 3) := dk_180 0 22 (dk_at dksX10_does_0 1 rfl rfl)
theorem dX10_does_4 : decode cX10_does 4 = .ok (.sipush 720, 3) := dk_17 2 208 (dk_at dksX10_does_0 4 rfl rfl)
theorem dX10_does_7 : decode cX10_does 7 = .ok (.if_icmp .ge 23, 3) := dk_162 0 23 (dk_at dksX10_does_0 7 rfl rfl)
theorem dX10_does_10 : decode cX10_does 10 = .ok (.aload_n 1, 1) := dk_43 (dk_at dksX10_does_0 10 rfl rfl)
theorem dX10_does_11 : decode cX10_does 11 = .ok (.aload_n 0, 1) := dk_42 (dk_at dksX10_does_0 11 rfl rfl)
theorem dX10_does_12 : decode cX10_does 12 = .ok (.getfield 9, 3) := dk_180 0 9 (dk_at dksX10_does_0 12 rfl rfl)
theorem dX10_does_15 : decode cX10_does 15 = .ok (.aload_n 0, 1) := dk_42 (dk_at dksX10_does_0 15 rfl rfl)
theorem dX10_does_16 : decode cX10_does 16 = .ok (.getfield 13, 3) := dk_180 0 13 (dk_at dksX10_does_0 16 rfl rfl)
theorem dX10_does_19 : decode cX10_does 19 = .ok (.invokevirtual 27, 3) := dk_182 0 27 (dk_at dksX10_does_0 19 rfl rfl)
theorem dX10_does_22 : decode cX10_does 22 = .ok (.iconst (-1), 1) := dk_2 (dk_at dksX10_does_0 22 rfl rfl)
theorem dX10_does_23 : decode cX10_does 23 = .ok (.if_icmp .lt 7, 3) := dk_161 0 7 (dk_at dksX10_does_1 0 rfl rfl)
theorem dX10_does_26 : decode cX10_does 26 = .ok (.iconst 1, 1) := dk_4 (dk_at dksX10_does_1 3 rfl rfl)
theorem dX10_does_27 : decode cX10_does 27 = .ok (.goto 4, 3) := dk_167 0 4 (dk_at dksX10_does_1 4 rfl rfl)
theorem dX10_does_30 : decode cX10_does 30 = .ok (.iconst 0, 1) := dk_3 (dk_at dksX10_does_1 7 rfl rfl)
theorem dX10_does_31 : decode cX10_does 31 = .ok (.ireturn, 1) := dk_172 (dk_at dksX10_does_1 8 rfl rfl)
theorem q174 : (Jvm.Cond.initialized "RoseProverbs$Script$1") ∈ lw_all := lw_g (lw_at lw_m1 42 rfl) rfl
theorem q632 : (Jvm.Cond.fieldLinkNest "RoseProverbs$Script$1" (22 : Nat) "RoseProverbs$Rose" "day" "I" "RoseProverbs") ∈ lw_tbl := lw_at lw_m3 20 rfl
theorem q784 : (Jvm.Cond.selects "RoseProverbs$Script$1" ({ cls := "java/lang/Object", name := "getClass", desc := "()Ljava/lang/Class;" } : Jvm.MethodName) ({ cls := "java/lang/Object", name := "getClass", desc := "()Ljava/lang/Class;" } : Jvm.MethodName)) ∈ lw_all := lw_g (lw_at lw_m3 172 rfl) rfl
theorem q1691 : (Jvm.Cond.instantiable "RoseProverbs$Script$1" (3 : Nat)) ∈ lw_all := lw_g (lw_at lw_m7 119 rfl) rfl
theorem q1693 : (Jvm.Cond.instanceMethod ({ cls := "RoseProverbs$Script$1", name := "<init>", desc := "(LRoseProverbs$Script;II)V" } : Jvm.MethodName)) ∈ lw_all := lw_g (lw_at lw_m7 121 rfl) rfl
theorem q1694 : (Jvm.Cond.code ({ cls := "RoseProverbs$Script$1", name := "<init>", desc := "(LRoseProverbs$Script;II)V" } : Jvm.MethodName) prog_13_method_1_code (4 : Nat) (Option.none : Option Jvm.ClassFile.FieldType)) ∈ lw_all := lw_g (lw_at lw_m7 122 rfl) rfl
theorem q1695 : (Jvm.Cond.methodLinkNest "RoseProverbs$Script$1" (16 : Nat) ({ cls := "RoseProverbs$Deed", name := "<init>", desc := "()V" } : Jvm.MethodName) "RoseProverbs") ∈ lw_tbl := lw_at lw_m7 123 rfl
theorem q1699 : (Jvm.Cond.fieldLink "RoseProverbs$Script$1" (9 : Nat) "RoseProverbs$Script$1" "val$wind" "I") ∈ lw_all := lw_g (lw_at lw_m7 127 rfl) rfl
theorem q1700 : (Jvm.Cond.fieldLink "RoseProverbs$Script$1" (13 : Nat) "RoseProverbs$Script$1" "val$weather" "I") ∈ lw_all := lw_g (lw_at lw_m7 128 rfl) rfl
theorem q1701 : (Jvm.Cond.fieldLink "RoseProverbs$Script$1" (3 : Nat) "RoseProverbs$Script$1" "this$1" "LRoseProverbs$Script;") ∈ lw_all := lw_g (lw_at lw_m7 129 rfl) rfl
theorem q1702 : (Jvm.Cond.laysFinal "RoseProverbs$Script$1" "RoseProverbs$Script$1" "val$wind" "I") ∈ lw_all := lw_g (lw_at lw_m7 130 rfl) rfl
theorem q1703 : (Jvm.Cond.soleField "RoseProverbs$Script$1" "val$wind") ∈ lw_all := lw_g (lw_at lw_m7 131 rfl) rfl
theorem q1704 : (Jvm.Cond.laysFinal "RoseProverbs$Script$1" "RoseProverbs$Script$1" "val$weather" "I") ∈ lw_all := lw_g (lw_at lw_m7 132 rfl) rfl
theorem q1705 : (Jvm.Cond.soleField "RoseProverbs$Script$1" "val$weather") ∈ lw_all := lw_g (lw_at lw_m7 133 rfl) rfl
theorem q1706 : (Jvm.Cond.laysFinal "RoseProverbs$Script$1" "RoseProverbs$Script$1" "this$1" "LRoseProverbs$Script;") ∈ lw_all := lw_g (lw_at lw_m7 134 rfl) rfl
theorem q1707 : (Jvm.Cond.soleField "RoseProverbs$Script$1" "this$1") ∈ lw_all := lw_g (lw_at lw_m7 135 rfl) rfl
theorem q1708 : (Jvm.Cond.superclass "RoseProverbs$Script$1" "RoseProverbs$Deed") ∈ lw_all := lw_g (lw_at lw_m7 136 rfl) rfl
theorem q1880 : (Jvm.Cond.selects "RoseProverbs$Script$1" ({ cls := "RoseProverbs$Deed", name := "does", desc := "(LRoseProverbs$Rose;)Z" } : Jvm.MethodName) ({ cls := "RoseProverbs$Script$1", name := "does", desc := "(LRoseProverbs$Rose;)Z" } : Jvm.MethodName)) ∈ lw_all := lw_g (lw_at lw_m8 68 rfl) rfl
theorem q1881 : (Jvm.Cond.instanceMethod ({ cls := "RoseProverbs$Script$1", name := "does", desc := "(LRoseProverbs$Rose;)Z" } : Jvm.MethodName)) ∈ lw_all := lw_g (lw_at lw_m8 69 rfl) rfl
theorem q1882 : (Jvm.Cond.code ({ cls := "RoseProverbs$Script$1", name := "does", desc := "(LRoseProverbs$Rose;)Z" } : Jvm.MethodName) prog_13_method_2_code (2 : Nat) (Option.some Jvm.ClassFile.FieldType.boolean)) ∈ lw_all := lw_g (lw_at lw_m8 70 rfl) rfl
theorem q1883 : (Jvm.Cond.methodLink "RoseProverbs$Script$1" (27 : Nat) ({ cls := "RoseProverbs$Rose", name := "lives", desc := "(II)I" } : Jvm.MethodName)) ∈ lw_all := lw_g (lw_at lw_m8 71 rfl) rfl
theorem q3585 : (Jvm.Cond.castable "RoseProverbs$Script$1" "RoseProverbs$Deed") ∈ lw_tbl := lw_at lw_m15 93 rfl
theorem q3609 : (Jvm.Cond.castable "RoseProverbs$Script$1" "java/lang/Object") ∈ lw_tbl := lw_at lw_m15 117 rfl
theorem in_X10 : ∀ w ∈ wsX100, w ∈ lw_all := lw_in wsX100 [1702, 1704, 1706] (by decide +kernel) (by decide +kernel)
/-! RoseProverbs$Script$1Coming -/
set_option maxRecDepth 100000
def RX11 : String := "RoseProverbs$Script$1Coming"
def TX11 : u_T := fun k => match k with
  | 0 => ("RoseProverbs$Script$1Coming", "val$its", "[I", true)
  | _ => ("RoseProverbs$Script$1Coming", "this$1", "LRoseProverbs$Script;", true)
def tyX11 : Nat → FieldType := fun k => match k with
  | 0 => .array .int
  | _ => .object "RoseProverbs$Script"
abbrev wsX110 : List Cond := u_ws RX11 TX11 2
theorem nmX11 : ∀ a, a < 2 → ∀ b, b < 2 → a ≠ b → (TX11 a).2.1 ≠ (TX11 b).2.1 := by decide +kernel
theorem tyX11_ok : ∀ k, k < 2 → parseFieldDescriptor (TX11 k).2.2.1 = some (tyX11 k) := by decide +kernel
abbrev cX11_init : ByteArray := prog_14_method_1_code
def yX11_init : MethodName := ⟨RX11, "<init>", "(LRoseProverbs$Script;[I)V"⟩
def dkwX11_init_0 : List UInt8 := [42, 43, 181, 0, 1, 42, 44, 181, 0, 7, 42, 183, 0, 11, 177]
abbrev dktX11_init_0 : List UInt8 := dkwX11_init_0 ++ []
theorem dksX11_init_0 : cX11_init.data.toList.drop 0 = dktX11_init_0 := by decide +kernel
theorem dX11_init_0 : decode cX11_init 0 = .ok (.aload_n 0, 1) := dk_42 (dk_at dksX11_init_0 0 rfl rfl)
theorem dX11_init_1 : decode cX11_init 1 = .ok (.aload_n 1, 1) := dk_43 (dk_at dksX11_init_0 1 rfl rfl)
theorem dX11_init_2 : decode cX11_init 2 = .ok (.putfield 1, 3) := dk_181 0 1 (dk_at dksX11_init_0 2 rfl rfl)
theorem dX11_init_5 : decode cX11_init 5 = .ok (.aload_n 0, 1) := dk_42 (dk_at dksX11_init_0 5 rfl rfl)
theorem dX11_init_6 : decode cX11_init 6 = .ok (.aload_n 2, 1) := dk_44 (dk_at dksX11_init_0 6 rfl rfl)
theorem dX11_init_7 : decode cX11_init 7 = .ok (.putfield 7, 3) := dk_181 0 7 (dk_at dksX11_init_0 7 rfl rfl)
theorem dX11_init_10 : decode cX11_init 10 = .ok (.aload_n 0, 1) := dk_42 (dk_at dksX11_init_0 10 rfl rfl)
theorem dX11_init_11 : decode cX11_init 11 = .ok (.invokespecial 11, 3) := dk_183 0 11 (dk_at dksX11_init_0 11 rfl rfl)
theorem dX11_init_14 : decode cX11_init 14 = .ok (.return_, 1) := dk_177 (dk_at dksX11_init_0 14 rfl rfl)
abbrev cX11_does : ByteArray := prog_14_method_2_code
def yX11_does : MethodName := ⟨RX11, "does", "(LRoseProverbs$Rose;)Z"⟩
def dkwX11_does_1 : List UInt8 := [167, 0, 4, 3, 172]
abbrev dktX11_does_1 : List UInt8 := dkwX11_does_1 ++ []
def dkwX11_does_0 : List UInt8 := [43, 42, 180, 0, 7, 184, 0, 17, 153, 0, 18, 43, 42, 180, 0, 7, 184, 0, 23, 155, 0, 7, 4]
abbrev dktX11_does_0 : List UInt8 := dkwX11_does_0 ++ dktX11_does_1
theorem dksX11_does_0 : cX11_does.data.toList.drop 0 = dktX11_does_0 := by decide +kernel
theorem dksX11_does_1 : cX11_does.data.toList.drop 23 = dktX11_does_1 := dk_seg dksX11_does_0 23 rfl rfl
theorem dX11_does_0 : decode cX11_does 0 = .ok (.aload_n 1, 1) := dk_43 (dk_at dksX11_does_0 0 rfl rfl)
theorem dX11_does_1 : decode cX11_does 1 = .ok (.aload_n 0, 1) := dk_42 (dk_at dksX11_does_0 1 rfl rfl)
theorem dX11_does_2 : decode cX11_does 2 = .ok (.getfield 7, 3) := dk_180 0 7 (dk_at dksX11_does_0 2 rfl rfl)
theorem dX11_does_5 : decode cX11_does 5 = .ok (.invokestatic 17, 3) := dk_184 0 17 (dk_at dksX11_does_0 5 rfl rfl)
theorem dX11_does_8 : decode cX11_does 8 = .ok (.ifCond .eq 18, 3) := dk_153 0 18 (dk_at dksX11_does_0 8 rfl rfl)
theorem dX11_does_11 : decode cX11_does 11 = .ok (.aload_n 1, 1) := dk_43 (dk_at dksX11_does_0 11 rfl rfl)
theorem dX11_does_12 : decode cX11_does 12 = .ok (.aload_n 0, 1) := dk_42 (dk_at dksX11_does_0 12 rfl rfl)
theorem dX11_does_13 : decode cX11_does 13 = .ok (.getfield 7, 3) := dk_180 0 7 (dk_at dksX11_does_0 13 rfl rfl)
theorem dX11_does_16 : decode cX11_does 16 = .ok (.invokestatic 23, 3) := dk_184 0 23 (dk_at dksX11_does_0 16 rfl rfl)
theorem dX11_does_19 : decode cX11_does 19 = .ok (.ifCond .lt 7, 3) := dk_155 0 7 (dk_at dksX11_does_0 19 rfl rfl)
theorem dX11_does_22 : decode cX11_does 22 = .ok (.iconst 1, 1) := dk_4 (dk_at dksX11_does_0 22 rfl rfl)
theorem dX11_does_23 : decode cX11_does 23 = .ok (.goto 4, 3) := dk_167 0 4 (dk_at dksX11_does_1 0 rfl rfl)
theorem dX11_does_26 : decode cX11_does 26 = .ok (.iconst 0, 1) := dk_3 (dk_at dksX11_does_1 3 rfl rfl)
theorem dX11_does_27 : decode cX11_does 27 = .ok (.ireturn, 1) := dk_172 (dk_at dksX11_does_1 4 rfl rfl)
theorem q175 : (Jvm.Cond.initialized "RoseProverbs$Script$1Coming") ∈ lw_all := lw_g (lw_at lw_m1 43 rfl) rfl
theorem q785 : (Jvm.Cond.selects "RoseProverbs$Script$1Coming" ({ cls := "java/lang/Object", name := "getClass", desc := "()Ljava/lang/Class;" } : Jvm.MethodName) ({ cls := "java/lang/Object", name := "getClass", desc := "()Ljava/lang/Class;" } : Jvm.MethodName)) ∈ lw_all := lw_g (lw_at lw_m3 173 rfl) rfl
theorem q1717 : (Jvm.Cond.instantiable "RoseProverbs$Script$1Coming" (2 : Nat)) ∈ lw_all := lw_g (lw_at lw_m7 145 rfl) rfl
theorem q1719 : (Jvm.Cond.instanceMethod ({ cls := "RoseProverbs$Script$1Coming", name := "<init>", desc := "(LRoseProverbs$Script;[I)V" } : Jvm.MethodName)) ∈ lw_all := lw_g (lw_at lw_m7 147 rfl) rfl
theorem q1720 : (Jvm.Cond.code ({ cls := "RoseProverbs$Script$1Coming", name := "<init>", desc := "(LRoseProverbs$Script;[I)V" } : Jvm.MethodName) prog_14_method_1_code (3 : Nat) (Option.none : Option Jvm.ClassFile.FieldType)) ∈ lw_all := lw_g (lw_at lw_m7 148 rfl) rfl
theorem q1721 : (Jvm.Cond.methodLinkNest "RoseProverbs$Script$1Coming" (11 : Nat) ({ cls := "RoseProverbs$Deed", name := "<init>", desc := "()V" } : Jvm.MethodName) "RoseProverbs") ∈ lw_tbl := lw_at lw_m7 149 rfl
theorem q1722 : (Jvm.Cond.fieldLink "RoseProverbs$Script$1Coming" (7 : Nat) "RoseProverbs$Script$1Coming" "val$its" "[I") ∈ lw_all := lw_g (lw_at lw_m7 150 rfl) rfl
theorem q1723 : (Jvm.Cond.fieldLink "RoseProverbs$Script$1Coming" (1 : Nat) "RoseProverbs$Script$1Coming" "this$1" "LRoseProverbs$Script;") ∈ lw_all := lw_g (lw_at lw_m7 151 rfl) rfl
theorem q1724 : (Jvm.Cond.laysFinal "RoseProverbs$Script$1Coming" "RoseProverbs$Script$1Coming" "val$its" "[I") ∈ lw_all := lw_g (lw_at lw_m7 152 rfl) rfl
theorem q1725 : (Jvm.Cond.soleField "RoseProverbs$Script$1Coming" "val$its") ∈ lw_all := lw_g (lw_at lw_m7 153 rfl) rfl
theorem q1726 : (Jvm.Cond.laysFinal "RoseProverbs$Script$1Coming" "RoseProverbs$Script$1Coming" "this$1" "LRoseProverbs$Script;") ∈ lw_all := lw_g (lw_at lw_m7 154 rfl) rfl
theorem q1727 : (Jvm.Cond.soleField "RoseProverbs$Script$1Coming" "this$1") ∈ lw_all := lw_g (lw_at lw_m7 155 rfl) rfl
theorem q1728 : (Jvm.Cond.superclass "RoseProverbs$Script$1Coming" "RoseProverbs$Deed") ∈ lw_all := lw_g (lw_at lw_m7 156 rfl) rfl
theorem q1968 : (Jvm.Cond.selects "RoseProverbs$Script$1Coming" ({ cls := "RoseProverbs$Deed", name := "does", desc := "(LRoseProverbs$Rose;)Z" } : Jvm.MethodName) ({ cls := "RoseProverbs$Script$1Coming", name := "does", desc := "(LRoseProverbs$Rose;)Z" } : Jvm.MethodName)) ∈ lw_all := lw_g (lw_at lw_m8 156 rfl) rfl
theorem q1969 : (Jvm.Cond.instanceMethod ({ cls := "RoseProverbs$Script$1Coming", name := "does", desc := "(LRoseProverbs$Rose;)Z" } : Jvm.MethodName)) ∈ lw_all := lw_g (lw_at lw_m8 157 rfl) rfl
theorem q1970 : (Jvm.Cond.code ({ cls := "RoseProverbs$Script$1Coming", name := "does", desc := "(LRoseProverbs$Rose;)Z" } : Jvm.MethodName) prog_14_method_2_code (2 : Nat) (Option.some Jvm.ClassFile.FieldType.boolean)) ∈ lw_all := lw_g (lw_at lw_m8 158 rfl) rfl
theorem q1971 : (Jvm.Cond.methodLinkNest "RoseProverbs$Script$1Coming" (17 : Nat) ({ cls := "RoseProverbs", name := "mayCome", desc := "(LRoseProverbs$Rose;[I)Z" } : Jvm.MethodName) "RoseProverbs") ∈ lw_tbl := lw_at lw_m8 159 rfl
theorem q1975 : (Jvm.Cond.methodLinkNest "RoseProverbs$Script$1Coming" (23 : Nat) ({ cls := "RoseProverbs", name := "comes", desc := "(LRoseProverbs$Rose;[I)I" } : Jvm.MethodName) "RoseProverbs") ∈ lw_tbl := lw_at lw_m8 163 rfl
theorem q3586 : (Jvm.Cond.castable "RoseProverbs$Script$1Coming" "RoseProverbs$Deed") ∈ lw_tbl := lw_at lw_m15 94 rfl
theorem q3610 : (Jvm.Cond.castable "RoseProverbs$Script$1Coming" "java/lang/Object") ∈ lw_tbl := lw_at lw_m15 118 rfl
theorem in_X11 : ∀ w ∈ wsX110, w ∈ lw_all := lw_in wsX110 [1724, 1726] (by decide +kernel) (by decide +kernel)
/-! RoseProverbs$Script$2 -/
set_option maxRecDepth 100000
def RX12 : String := "RoseProverbs$Script$2"
def TX12 : u_T := fun k => match k with
  | 0 => ("RoseProverbs$Script$2", "val$k", "I", true)
  | _ => ("RoseProverbs$Script$2", "this$1", "LRoseProverbs$Script;", true)
def tyX12 : Nat → FieldType := fun k => match k with
  | 0 => .int
  | _ => .object "RoseProverbs$Script"
abbrev wsX120 : List Cond := u_ws RX12 TX12 2
theorem nmX12 : ∀ a, a < 2 → ∀ b, b < 2 → a ≠ b → (TX12 a).2.1 ≠ (TX12 b).2.1 := by decide +kernel
theorem tyX12_ok : ∀ k, k < 2 → parseFieldDescriptor (TX12 k).2.2.1 = some (tyX12 k) := by decide +kernel
abbrev cX12_init : ByteArray := prog_15_method_1_code
def yX12_init : MethodName := ⟨RX12, "<init>", "(LRoseProverbs$Script;I)V"⟩
def dkwX12_init_0 : List UInt8 := [42, 43, 181, 0, 1, 42, 28, 181, 0, 7, 42, 183, 0, 11, 177]
abbrev dktX12_init_0 : List UInt8 := dkwX12_init_0 ++ []
theorem dksX12_init_0 : cX12_init.data.toList.drop 0 = dktX12_init_0 := by decide +kernel
theorem dX12_init_0 : decode cX12_init 0 = .ok (.aload_n 0, 1) := dk_42 (dk_at dksX12_init_0 0 rfl rfl)
theorem dX12_init_1 : decode cX12_init 1 = .ok (.aload_n 1, 1) := dk_43 (dk_at dksX12_init_0 1 rfl rfl)
theorem dX12_init_2 : decode cX12_init 2 = .ok (.putfield 1, 3) := dk_181 0 1 (dk_at dksX12_init_0 2 rfl rfl)
theorem dX12_init_5 : decode cX12_init 5 = .ok (.aload_n 0, 1) := dk_42 (dk_at dksX12_init_0 5 rfl rfl)
theorem dX12_init_6 : decode cX12_init 6 = .ok (.iload_n 2, 1) := dk_28 (dk_at dksX12_init_0 6 rfl rfl)
theorem dX12_init_7 : decode cX12_init 7 = .ok (.putfield 7, 3) := dk_181 0 7 (dk_at dksX12_init_0 7 rfl rfl)
theorem dX12_init_10 : decode cX12_init 10 = .ok (.aload_n 0, 1) := dk_42 (dk_at dksX12_init_0 10 rfl rfl)
theorem dX12_init_11 : decode cX12_init 11 = .ok (.invokespecial 11, 3) := dk_183 0 11 (dk_at dksX12_init_0 11 rfl rfl)
theorem dX12_init_14 : decode cX12_init 14 = .ok (.return_, 1) := dk_177 (dk_at dksX12_init_0 14 rfl rfl)
abbrev cX12_does : ByteArray := prog_15_method_2_code
def yX12_does : MethodName := ⟨RX12, "does", "(LRoseProverbs$Rose;)Z"⟩
def dkwX12_does_1 : List UInt8 := [180, 0, 33, 154, 0, 18, 43, 42, 180, 0, 7, 182, 0, 39, 155, 0, 7, 4, 167, 0, 4, 3, 172]
abbrev dktX12_does_1 : List UInt8 := dkwX12_does_1 ++ []
def dkwX12_does_0 : List UInt8 := [42, 180, 0, 7, 43, 180, 0, 17, 185, 0, 23, 1, 0, 162, 0, 32, 43, 42, 180, 0, 7, 182, 0, 29]
abbrev dktX12_does_0 : List UInt8 := dkwX12_does_0 ++ dktX12_does_1
theorem dksX12_does_0 : cX12_does.data.toList.drop 0 = dktX12_does_0 := by decide +kernel
theorem dksX12_does_1 : cX12_does.data.toList.drop 24 = dktX12_does_1 := dk_seg dksX12_does_0 24 rfl rfl
theorem dX12_does_0 : decode cX12_does 0 = .ok (.aload_n 0, 1) := dk_42 (dk_at dksX12_does_0 0 rfl rfl)
theorem dX12_does_1 : decode cX12_does 1 = .ok (.getfield 7, 3) := dk_180 0 7 (dk_at dksX12_does_0 1 rfl rfl)
theorem dX12_does_4 : decode cX12_does 4 = .ok (.aload_n 1, 1) := dk_43 (dk_at dksX12_does_0 4 rfl rfl)
theorem dX12_does_5 : decode cX12_does 5 = .ok (.getfield 17, 3) := dk_180 0 17 (dk_at dksX12_does_0 5 rfl rfl)
theorem dX12_does_8 : decode cX12_does 8 = .ok (.invokeinterface 23 1, 5) := by decide +kernel
theorem dX12_does_13 : decode cX12_does 13 = .ok (.if_icmp .ge 32, 3) := dk_162 0 32 (dk_at dksX12_does_0 13 rfl rfl)
theorem dX12_does_16 : decode cX12_does 16 = .ok (.aload_n 1, 1) := dk_43 (dk_at dksX12_does_0 16 rfl rfl)
theorem dX12_does_17 : decode cX12_does 17 = .ok (.aload_n 0, 1) := dk_42 (dk_at dksX12_does_0 17 rfl rfl)
theorem dX12_does_18 : decode cX12_does 18 = .ok (.getfield 7, 3) := dk_180 0 7 (dk_at dksX12_does_0 18 rfl rfl)
theorem dX12_does_21 : decode cX12_does 21 = .ok (.invokevirtual 29, 3) := dk_182 0 29 (dk_at dksX12_does_0 21 rfl rfl)
theorem dX12_does_24 : decode cX12_does 24 = .ok (.getfield 33, 3) := dk_180 0 33 (dk_at dksX12_does_1 0 rfl rfl)
theorem dX12_does_27 : decode cX12_does 27 = .ok (.ifCond .ne 18, 3) := dk_154 0 18 (dk_at dksX12_does_1 3 rfl rfl)
theorem dX12_does_30 : decode cX12_does 30 = .ok (.aload_n 1, 1) := dk_43 (dk_at dksX12_does_1 6 rfl rfl)
theorem dX12_does_31 : decode cX12_does 31 = .ok (.aload_n 0, 1) := dk_42 (dk_at dksX12_does_1 7 rfl rfl)
theorem dX12_does_32 : decode cX12_does 32 = .ok (.getfield 7, 3) := dk_180 0 7 (dk_at dksX12_does_1 8 rfl rfl)
theorem dX12_does_35 : decode cX12_does 35 = .ok (.invokevirtual 39, 3) := dk_182 0 39 (dk_at dksX12_does_1 11 rfl rfl)
theorem dX12_does_38 : decode cX12_does 38 = .ok (.ifCond .lt 7, 3) := dk_155 0 7 (dk_at dksX12_does_1 14 rfl rfl)
theorem dX12_does_41 : decode cX12_does 41 = .ok (.iconst 1, 1) := dk_4 (dk_at dksX12_does_1 17 rfl rfl)
theorem dX12_does_42 : decode cX12_does 42 = .ok (.goto 4, 3) := dk_167 0 4 (dk_at dksX12_does_1 18 rfl rfl)
theorem dX12_does_45 : decode cX12_does 45 = .ok (.iconst 0, 1) := dk_3 (dk_at dksX12_does_1 21 rfl rfl)
theorem dX12_does_46 : decode cX12_does 46 = .ok (.ireturn, 1) := dk_172 (dk_at dksX12_does_1 22 rfl rfl)
theorem q176 : (Jvm.Cond.initialized "RoseProverbs$Script$2") ∈ lw_all := lw_g (lw_at lw_m1 44 rfl) rfl
theorem q605 : (Jvm.Cond.fieldLinkNest "RoseProverbs$Script$2" (17 : Nat) "RoseProverbs$Rose" "proverbs" "Ljava/util/List;" "RoseProverbs") ∈ lw_tbl := lw_at lw_m2 233 rfl
theorem q714 : (Jvm.Cond.fieldLinkNest "RoseProverbs$Script$2" (33 : Nat) "RoseProverbs$Proverb" "forgotten" "Z" "RoseProverbs") ∈ lw_tbl := lw_at lw_m3 102 rfl
theorem q786 : (Jvm.Cond.selects "RoseProverbs$Script$2" ({ cls := "java/lang/Object", name := "getClass", desc := "()Ljava/lang/Class;" } : Jvm.MethodName) ({ cls := "java/lang/Object", name := "getClass", desc := "()Ljava/lang/Class;" } : Jvm.MethodName)) ∈ lw_all := lw_g (lw_at lw_m3 174 rfl) rfl
theorem q1734 : (Jvm.Cond.instantiable "RoseProverbs$Script$2" (2 : Nat)) ∈ lw_all := lw_g (lw_at lw_m7 162 rfl) rfl
theorem q1736 : (Jvm.Cond.instanceMethod ({ cls := "RoseProverbs$Script$2", name := "<init>", desc := "(LRoseProverbs$Script;I)V" } : Jvm.MethodName)) ∈ lw_all := lw_g (lw_at lw_m7 164 rfl) rfl
theorem q1737 : (Jvm.Cond.code ({ cls := "RoseProverbs$Script$2", name := "<init>", desc := "(LRoseProverbs$Script;I)V" } : Jvm.MethodName) prog_15_method_1_code (3 : Nat) (Option.none : Option Jvm.ClassFile.FieldType)) ∈ lw_all := lw_g (lw_at lw_m7 165 rfl) rfl
theorem q1738 : (Jvm.Cond.methodLinkNest "RoseProverbs$Script$2" (11 : Nat) ({ cls := "RoseProverbs$Deed", name := "<init>", desc := "()V" } : Jvm.MethodName) "RoseProverbs") ∈ lw_tbl := lw_at lw_m7 166 rfl
theorem q1739 : (Jvm.Cond.fieldLink "RoseProverbs$Script$2" (7 : Nat) "RoseProverbs$Script$2" "val$k" "I") ∈ lw_all := lw_g (lw_at lw_m7 167 rfl) rfl
theorem q1740 : (Jvm.Cond.fieldLink "RoseProverbs$Script$2" (1 : Nat) "RoseProverbs$Script$2" "this$1" "LRoseProverbs$Script;") ∈ lw_all := lw_g (lw_at lw_m7 168 rfl) rfl
theorem q1741 : (Jvm.Cond.laysFinal "RoseProverbs$Script$2" "RoseProverbs$Script$2" "val$k" "I") ∈ lw_all := lw_g (lw_at lw_m7 169 rfl) rfl
theorem q1742 : (Jvm.Cond.soleField "RoseProverbs$Script$2" "val$k") ∈ lw_all := lw_g (lw_at lw_m7 170 rfl) rfl
theorem q1743 : (Jvm.Cond.laysFinal "RoseProverbs$Script$2" "RoseProverbs$Script$2" "this$1" "LRoseProverbs$Script;") ∈ lw_all := lw_g (lw_at lw_m7 171 rfl) rfl
theorem q1744 : (Jvm.Cond.soleField "RoseProverbs$Script$2" "this$1") ∈ lw_all := lw_g (lw_at lw_m7 172 rfl) rfl
theorem q1745 : (Jvm.Cond.superclass "RoseProverbs$Script$2" "RoseProverbs$Deed") ∈ lw_all := lw_g (lw_at lw_m7 173 rfl) rfl
theorem q1978 : (Jvm.Cond.selects "RoseProverbs$Script$2" ({ cls := "RoseProverbs$Deed", name := "does", desc := "(LRoseProverbs$Rose;)Z" } : Jvm.MethodName) ({ cls := "RoseProverbs$Script$2", name := "does", desc := "(LRoseProverbs$Rose;)Z" } : Jvm.MethodName)) ∈ lw_all := lw_g (lw_at lw_m8 166 rfl) rfl
theorem q1979 : (Jvm.Cond.instanceMethod ({ cls := "RoseProverbs$Script$2", name := "does", desc := "(LRoseProverbs$Rose;)Z" } : Jvm.MethodName)) ∈ lw_all := lw_g (lw_at lw_m8 167 rfl) rfl
theorem q1980 : (Jvm.Cond.code ({ cls := "RoseProverbs$Script$2", name := "does", desc := "(LRoseProverbs$Rose;)Z" } : Jvm.MethodName) prog_15_method_2_code (2 : Nat) (Option.some Jvm.ClassFile.FieldType.boolean)) ∈ lw_all := lw_g (lw_at lw_m8 168 rfl) rfl
theorem q1981 : (Jvm.Cond.interfaceEntry "RoseProverbs$Script$2" (23 : Nat)) ∈ lw_tbl := lw_at lw_m8 169 rfl
theorem q1982 : (Jvm.Cond.methodLink "RoseProverbs$Script$2" (23 : Nat) ({ cls := "java/util/List", name := "size", desc := "()I" } : Jvm.MethodName)) ∈ lw_all := lw_g (lw_at lw_m8 170 rfl) rfl
theorem q1983 : (Jvm.Cond.methodLink "RoseProverbs$Script$2" (29 : Nat) ({ cls := "RoseProverbs$Rose", name := "proverb", desc := "(I)LRoseProverbs$Proverb;" } : Jvm.MethodName)) ∈ lw_all := lw_g (lw_at lw_m8 171 rfl) rfl
theorem q1984 : (Jvm.Cond.methodLink "RoseProverbs$Script$2" (39 : Nat) ({ cls := "RoseProverbs$Rose", name := "forgets", desc := "(I)I" } : Jvm.MethodName)) ∈ lw_all := lw_g (lw_at lw_m8 172 rfl) rfl
theorem q3587 : (Jvm.Cond.castable "RoseProverbs$Script$2" "RoseProverbs$Deed") ∈ lw_tbl := lw_at lw_m15 95 rfl
theorem q3611 : (Jvm.Cond.castable "RoseProverbs$Script$2" "java/lang/Object") ∈ lw_tbl := lw_at lw_m15 119 rfl
theorem in_X12 : ∀ w ∈ wsX120, w ∈ lw_all := lw_in wsX120 [1741, 1743] (by decide +kernel) (by decide +kernel)
/-! RoseProverbs$Script$3 -/
set_option maxRecDepth 100000
def RX13 : String := "RoseProverbs$Script$3"
def TX13 : u_T := fun k => match k with
  | 0 => ("RoseProverbs$Script$3", "val$k", "I", true)
  | 1 => ("RoseProverbs$Script$3", "val$weight", "I", true)
  | _ => ("RoseProverbs$Script$3", "this$1", "LRoseProverbs$Script;", true)
def tyX13 : Nat → FieldType := fun k => match k with
  | 0 => .int
  | 1 => .int
  | _ => .object "RoseProverbs$Script"
abbrev wsX130 : List Cond := u_ws RX13 TX13 3
theorem nmX13 : ∀ a, a < 3 → ∀ b, b < 3 → a ≠ b → (TX13 a).2.1 ≠ (TX13 b).2.1 := by decide +kernel
theorem tyX13_ok : ∀ k, k < 3 → parseFieldDescriptor (TX13 k).2.2.1 = some (tyX13 k) := by decide +kernel
abbrev cX13_init : ByteArray := prog_16_method_1_code
def yX13_init : MethodName := ⟨RX13, "<init>", "(LRoseProverbs$Script;II)V"⟩
def dkwX13_init_0 : List UInt8 := [42, 43, 181, 0, 1, 42, 28, 181, 0, 7, 42, 29, 181, 0, 11, 42, 183, 0, 14, 177]
abbrev dktX13_init_0 : List UInt8 := dkwX13_init_0 ++ []
theorem dksX13_init_0 : cX13_init.data.toList.drop 0 = dktX13_init_0 := by decide +kernel
theorem dX13_init_0 : decode cX13_init 0 = .ok (.aload_n 0, 1) := dk_42 (dk_at dksX13_init_0 0 rfl rfl)
theorem dX13_init_1 : decode cX13_init 1 = .ok (.aload_n 1, 1) := dk_43 (dk_at dksX13_init_0 1 rfl rfl)
theorem dX13_init_2 : decode cX13_init 2 = .ok (.putfield 1, 3) := dk_181 0 1 (dk_at dksX13_init_0 2 rfl rfl)
theorem dX13_init_5 : decode cX13_init 5 = .ok (.aload_n 0, 1) := dk_42 (dk_at dksX13_init_0 5 rfl rfl)
theorem dX13_init_6 : decode cX13_init 6 = .ok (.iload_n 2, 1) := dk_28 (dk_at dksX13_init_0 6 rfl rfl)
theorem dX13_init_7 : decode cX13_init 7 = .ok (.putfield 7, 3) := dk_181 0 7 (dk_at dksX13_init_0 7 rfl rfl)
theorem dX13_init_10 : decode cX13_init 10 = .ok (.aload_n 0, 1) := dk_42 (dk_at dksX13_init_0 10 rfl rfl)
theorem dX13_init_11 : decode cX13_init 11 = .ok (.iload_n 3, 1) := dk_29 (dk_at dksX13_init_0 11 rfl rfl)
theorem dX13_init_12 : decode cX13_init 12 = .ok (.putfield 11, 3) := dk_181 0 11 (dk_at dksX13_init_0 12 rfl rfl)
theorem dX13_init_15 : decode cX13_init 15 = .ok (.aload_n 0, 1) := dk_42 (dk_at dksX13_init_0 15 rfl rfl)
theorem dX13_init_16 : decode cX13_init 16 = .ok (.invokespecial 14, 3) := dk_183 0 14 (dk_at dksX13_init_0 16 rfl rfl)
theorem dX13_init_19 : decode cX13_init 19 = .ok (.return_, 1) := dk_177 (dk_at dksX13_init_0 19 rfl rfl)
abbrev cX13_does : ByteArray := prog_16_method_2_code
def yX13_does : MethodName := ⟨RX13, "does", "(LRoseProverbs$Rose;)Z"⟩
def dkwX13_does_1 : List UInt8 := [180, 0, 11, 182, 0, 32, 158, 0, 7, 4, 167, 0, 4, 3, 172]
abbrev dktX13_does_1 : List UInt8 := dkwX13_does_1 ++ []
def dkwX13_does_0 : List UInt8 := [42, 180, 0, 7, 43, 180, 0, 20, 185, 0, 26, 1, 0, 162, 0, 22, 43, 42, 180, 0, 7, 42]
abbrev dktX13_does_0 : List UInt8 := dkwX13_does_0 ++ dktX13_does_1
theorem dksX13_does_0 : cX13_does.data.toList.drop 0 = dktX13_does_0 := by decide +kernel
theorem dksX13_does_1 : cX13_does.data.toList.drop 22 = dktX13_does_1 := dk_seg dksX13_does_0 22 rfl rfl
theorem dX13_does_0 : decode cX13_does 0 = .ok (.aload_n 0, 1) := dk_42 (dk_at dksX13_does_0 0 rfl rfl)
theorem dX13_does_1 : decode cX13_does 1 = .ok (.getfield 7, 3) := dk_180 0 7 (dk_at dksX13_does_0 1 rfl rfl)
theorem dX13_does_4 : decode cX13_does 4 = .ok (.aload_n 1, 1) := dk_43 (dk_at dksX13_does_0 4 rfl rfl)
theorem dX13_does_5 : decode cX13_does 5 = .ok (.getfield 20, 3) := dk_180 0 20 (dk_at dksX13_does_0 5 rfl rfl)
theorem dX13_does_8 : decode cX13_does 8 = .ok (.invokeinterface 26 1, 5) := by decide +kernel
theorem dX13_does_13 : decode cX13_does 13 = .ok (.if_icmp .ge 22, 3) := dk_162 0 22 (dk_at dksX13_does_0 13 rfl rfl)
theorem dX13_does_16 : decode cX13_does 16 = .ok (.aload_n 1, 1) := dk_43 (dk_at dksX13_does_0 16 rfl rfl)
theorem dX13_does_17 : decode cX13_does 17 = .ok (.aload_n 0, 1) := dk_42 (dk_at dksX13_does_0 17 rfl rfl)
theorem dX13_does_18 : decode cX13_does 18 = .ok (.getfield 7, 3) := dk_180 0 7 (dk_at dksX13_does_0 18 rfl rfl)
theorem dX13_does_21 : decode cX13_does 21 = .ok (.aload_n 0, 1) := dk_42 (dk_at dksX13_does_0 21 rfl rfl)
theorem dX13_does_22 : decode cX13_does 22 = .ok (.getfield 11, 3) := dk_180 0 11 (dk_at dksX13_does_1 0 rfl rfl)
theorem dX13_does_25 : decode cX13_does 25 = .ok (.invokevirtual 32, 3) := dk_182 0 32 (dk_at dksX13_does_1 3 rfl rfl)
theorem dX13_does_28 : decode cX13_does 28 = .ok (.ifCond .le 7, 3) := dk_158 0 7 (dk_at dksX13_does_1 6 rfl rfl)
theorem dX13_does_31 : decode cX13_does 31 = .ok (.iconst 1, 1) := dk_4 (dk_at dksX13_does_1 9 rfl rfl)
theorem dX13_does_32 : decode cX13_does 32 = .ok (.goto 4, 3) := dk_167 0 4 (dk_at dksX13_does_1 10 rfl rfl)
theorem dX13_does_35 : decode cX13_does 35 = .ok (.iconst 0, 1) := dk_3 (dk_at dksX13_does_1 13 rfl rfl)
theorem dX13_does_36 : decode cX13_does 36 = .ok (.ireturn, 1) := dk_172 (dk_at dksX13_does_1 14 rfl rfl)
theorem q177 : (Jvm.Cond.initialized "RoseProverbs$Script$3") ∈ lw_all := lw_g (lw_at lw_m1 45 rfl) rfl
theorem q606 : (Jvm.Cond.fieldLinkNest "RoseProverbs$Script$3" (20 : Nat) "RoseProverbs$Rose" "proverbs" "Ljava/util/List;" "RoseProverbs") ∈ lw_tbl := lw_at lw_m2 234 rfl
theorem q787 : (Jvm.Cond.selects "RoseProverbs$Script$3" ({ cls := "java/lang/Object", name := "getClass", desc := "()Ljava/lang/Class;" } : Jvm.MethodName) ({ cls := "java/lang/Object", name := "getClass", desc := "()Ljava/lang/Class;" } : Jvm.MethodName)) ∈ lw_all := lw_g (lw_at lw_m3 175 rfl) rfl
theorem q1751 : (Jvm.Cond.instantiable "RoseProverbs$Script$3" (3 : Nat)) ∈ lw_all := lw_g (lw_at lw_m7 179 rfl) rfl
theorem q1753 : (Jvm.Cond.instanceMethod ({ cls := "RoseProverbs$Script$3", name := "<init>", desc := "(LRoseProverbs$Script;II)V" } : Jvm.MethodName)) ∈ lw_all := lw_g (lw_at lw_m7 181 rfl) rfl
theorem q1754 : (Jvm.Cond.code ({ cls := "RoseProverbs$Script$3", name := "<init>", desc := "(LRoseProverbs$Script;II)V" } : Jvm.MethodName) prog_16_method_1_code (4 : Nat) (Option.none : Option Jvm.ClassFile.FieldType)) ∈ lw_all := lw_g (lw_at lw_m7 182 rfl) rfl
theorem q1755 : (Jvm.Cond.methodLinkNest "RoseProverbs$Script$3" (14 : Nat) ({ cls := "RoseProverbs$Deed", name := "<init>", desc := "()V" } : Jvm.MethodName) "RoseProverbs") ∈ lw_tbl := lw_at lw_m7 183 rfl
theorem q1756 : (Jvm.Cond.fieldLink "RoseProverbs$Script$3" (7 : Nat) "RoseProverbs$Script$3" "val$k" "I") ∈ lw_all := lw_g (lw_at lw_m7 184 rfl) rfl
theorem q1757 : (Jvm.Cond.fieldLink "RoseProverbs$Script$3" (11 : Nat) "RoseProverbs$Script$3" "val$weight" "I") ∈ lw_all := lw_g (lw_at lw_m7 185 rfl) rfl
theorem q1758 : (Jvm.Cond.fieldLink "RoseProverbs$Script$3" (1 : Nat) "RoseProverbs$Script$3" "this$1" "LRoseProverbs$Script;") ∈ lw_all := lw_g (lw_at lw_m7 186 rfl) rfl
theorem q1759 : (Jvm.Cond.laysFinal "RoseProverbs$Script$3" "RoseProverbs$Script$3" "val$k" "I") ∈ lw_all := lw_g (lw_at lw_m7 187 rfl) rfl
theorem q1760 : (Jvm.Cond.soleField "RoseProverbs$Script$3" "val$k") ∈ lw_all := lw_g (lw_at lw_m7 188 rfl) rfl
theorem q1761 : (Jvm.Cond.laysFinal "RoseProverbs$Script$3" "RoseProverbs$Script$3" "val$weight" "I") ∈ lw_all := lw_g (lw_at lw_m7 189 rfl) rfl
theorem q1762 : (Jvm.Cond.soleField "RoseProverbs$Script$3" "val$weight") ∈ lw_all := lw_g (lw_at lw_m7 190 rfl) rfl
theorem q1763 : (Jvm.Cond.laysFinal "RoseProverbs$Script$3" "RoseProverbs$Script$3" "this$1" "LRoseProverbs$Script;") ∈ lw_all := lw_g (lw_at lw_m7 191 rfl) rfl
theorem q1764 : (Jvm.Cond.soleField "RoseProverbs$Script$3" "this$1") ∈ lw_all := lw_g (lw_at lw_m7 192 rfl) rfl
theorem q1765 : (Jvm.Cond.superclass "RoseProverbs$Script$3" "RoseProverbs$Deed") ∈ lw_all := lw_g (lw_at lw_m7 193 rfl) rfl
theorem q2007 : (Jvm.Cond.selects "RoseProverbs$Script$3" ({ cls := "RoseProverbs$Deed", name := "does", desc := "(LRoseProverbs$Rose;)Z" } : Jvm.MethodName) ({ cls := "RoseProverbs$Script$3", name := "does", desc := "(LRoseProverbs$Rose;)Z" } : Jvm.MethodName)) ∈ lw_all := lw_g (lw_at lw_m8 195 rfl) rfl
theorem q2008 : (Jvm.Cond.instanceMethod ({ cls := "RoseProverbs$Script$3", name := "does", desc := "(LRoseProverbs$Rose;)Z" } : Jvm.MethodName)) ∈ lw_all := lw_g (lw_at lw_m8 196 rfl) rfl
theorem q2009 : (Jvm.Cond.code ({ cls := "RoseProverbs$Script$3", name := "does", desc := "(LRoseProverbs$Rose;)Z" } : Jvm.MethodName) prog_16_method_2_code (2 : Nat) (Option.some Jvm.ClassFile.FieldType.boolean)) ∈ lw_all := lw_g (lw_at lw_m8 197 rfl) rfl
theorem q2010 : (Jvm.Cond.interfaceEntry "RoseProverbs$Script$3" (26 : Nat)) ∈ lw_tbl := lw_at lw_m8 198 rfl
theorem q2011 : (Jvm.Cond.methodLink "RoseProverbs$Script$3" (26 : Nat) ({ cls := "java/util/List", name := "size", desc := "()I" } : Jvm.MethodName)) ∈ lw_all := lw_g (lw_at lw_m8 199 rfl) rfl
theorem q2012 : (Jvm.Cond.methodLink "RoseProverbs$Script$3" (32 : Nat) ({ cls := "RoseProverbs$Rose", name := "weighs", desc := "(II)I" } : Jvm.MethodName)) ∈ lw_all := lw_g (lw_at lw_m8 200 rfl) rfl
theorem q3588 : (Jvm.Cond.castable "RoseProverbs$Script$3" "RoseProverbs$Deed") ∈ lw_tbl := lw_at lw_m15 96 rfl
theorem q3612 : (Jvm.Cond.castable "RoseProverbs$Script$3" "java/lang/Object") ∈ lw_tbl := lw_at lw_m15 120 rfl
theorem in_X13 : ∀ w ∈ wsX130, w ∈ lw_all := lw_in wsX130 [1759, 1761, 1763] (by decide +kernel) (by decide +kernel)
/-! RoseProverbs$Script$4 -/
set_option maxRecDepth 100000
def RX14 : String := "RoseProverbs$Script$4"
def TX14 : u_T := fun k => match k with
  | 0 => ("RoseProverbs$Script$4", "val$setting", "I", true)
  | 1 => ("RoseProverbs$Script$4", "val$value", "I", true)
  | _ => ("RoseProverbs$Script$4", "this$1", "LRoseProverbs$Script;", true)
def tyX14 : Nat → FieldType := fun k => match k with
  | 0 => .int
  | 1 => .int
  | _ => .object "RoseProverbs$Script"
abbrev wsX140 : List Cond := u_ws RX14 TX14 3
theorem nmX14 : ∀ a, a < 3 → ∀ b, b < 3 → a ≠ b → (TX14 a).2.1 ≠ (TX14 b).2.1 := by decide +kernel
theorem tyX14_ok : ∀ k, k < 3 → parseFieldDescriptor (TX14 k).2.2.1 = some (tyX14 k) := by decide +kernel
abbrev cX14_init : ByteArray := prog_17_method_1_code
def yX14_init : MethodName := ⟨RX14, "<init>", "(LRoseProverbs$Script;II)V"⟩
def dkwX14_init_0 : List UInt8 := [42, 43, 181, 0, 1, 42, 28, 181, 0, 7, 42, 29, 181, 0, 11, 42, 183, 0, 14, 177]
abbrev dktX14_init_0 : List UInt8 := dkwX14_init_0 ++ []
theorem dksX14_init_0 : cX14_init.data.toList.drop 0 = dktX14_init_0 := by decide +kernel
theorem dX14_init_0 : decode cX14_init 0 = .ok (.aload_n 0, 1) := dk_42 (dk_at dksX14_init_0 0 rfl rfl)
theorem dX14_init_1 : decode cX14_init 1 = .ok (.aload_n 1, 1) := dk_43 (dk_at dksX14_init_0 1 rfl rfl)
theorem dX14_init_2 : decode cX14_init 2 = .ok (.putfield 1, 3) := dk_181 0 1 (dk_at dksX14_init_0 2 rfl rfl)
theorem dX14_init_5 : decode cX14_init 5 = .ok (.aload_n 0, 1) := dk_42 (dk_at dksX14_init_0 5 rfl rfl)
theorem dX14_init_6 : decode cX14_init 6 = .ok (.iload_n 2, 1) := dk_28 (dk_at dksX14_init_0 6 rfl rfl)
theorem dX14_init_7 : decode cX14_init 7 = .ok (.putfield 7, 3) := dk_181 0 7 (dk_at dksX14_init_0 7 rfl rfl)
theorem dX14_init_10 : decode cX14_init 10 = .ok (.aload_n 0, 1) := dk_42 (dk_at dksX14_init_0 10 rfl rfl)
theorem dX14_init_11 : decode cX14_init 11 = .ok (.iload_n 3, 1) := dk_29 (dk_at dksX14_init_0 11 rfl rfl)
theorem dX14_init_12 : decode cX14_init 12 = .ok (.putfield 11, 3) := dk_181 0 11 (dk_at dksX14_init_0 12 rfl rfl)
theorem dX14_init_15 : decode cX14_init 15 = .ok (.aload_n 0, 1) := dk_42 (dk_at dksX14_init_0 15 rfl rfl)
theorem dX14_init_16 : decode cX14_init 16 = .ok (.invokespecial 14, 3) := dk_183 0 14 (dk_at dksX14_init_0 16 rfl rfl)
theorem dX14_init_19 : decode cX14_init 19 = .ok (.return_, 1) := dk_177 (dk_at dksX14_init_0 19 rfl rfl)
abbrev cX14_does : ByteArray := prog_17_method_2_code
def yX14_does : MethodName := ⟨RX14, "does", "(LRoseProverbs$Rose;)Z"⟩
def dkwX14_does_0 : List UInt8 := [43, 42, 180, 0, 7, 42, 180, 0, 11, 182, 0, 20, 155, 0, 7, 4, 167, 0, 4, 3, 172]
abbrev dktX14_does_0 : List UInt8 := dkwX14_does_0 ++ []
theorem dksX14_does_0 : cX14_does.data.toList.drop 0 = dktX14_does_0 := by decide +kernel
theorem dX14_does_0 : decode cX14_does 0 = .ok (.aload_n 1, 1) := dk_43 (dk_at dksX14_does_0 0 rfl rfl)
theorem dX14_does_1 : decode cX14_does 1 = .ok (.aload_n 0, 1) := dk_42 (dk_at dksX14_does_0 1 rfl rfl)
theorem dX14_does_2 : decode cX14_does 2 = .ok (.getfield 7, 3) := dk_180 0 7 (dk_at dksX14_does_0 2 rfl rfl)
theorem dX14_does_5 : decode cX14_does 5 = .ok (.aload_n 0, 1) := dk_42 (dk_at dksX14_does_0 5 rfl rfl)
theorem dX14_does_6 : decode cX14_does 6 = .ok (.getfield 11, 3) := dk_180 0 11 (dk_at dksX14_does_0 6 rfl rfl)
theorem dX14_does_9 : decode cX14_does 9 = .ok (.invokevirtual 20, 3) := dk_182 0 20 (dk_at dksX14_does_0 9 rfl rfl)
theorem dX14_does_12 : decode cX14_does 12 = .ok (.ifCond .lt 7, 3) := dk_155 0 7 (dk_at dksX14_does_0 12 rfl rfl)
theorem dX14_does_15 : decode cX14_does 15 = .ok (.iconst 1, 1) := dk_4 (dk_at dksX14_does_0 15 rfl rfl)
theorem dX14_does_16 : decode cX14_does 16 = .ok (.goto 4, 3) := dk_167 0 4 (dk_at dksX14_does_0 16 rfl rfl)
theorem dX14_does_19 : decode cX14_does 19 = .ok (.iconst 0, 1) := dk_3 (dk_at dksX14_does_0 19 rfl rfl)
theorem dX14_does_20 : decode cX14_does 20 = .ok (.ireturn, 1) := dk_172 (dk_at dksX14_does_0 20 rfl rfl)
theorem q178 : (Jvm.Cond.initialized "RoseProverbs$Script$4") ∈ lw_all := lw_g (lw_at lw_m1 46 rfl) rfl
theorem q788 : (Jvm.Cond.selects "RoseProverbs$Script$4" ({ cls := "java/lang/Object", name := "getClass", desc := "()Ljava/lang/Class;" } : Jvm.MethodName) ({ cls := "java/lang/Object", name := "getClass", desc := "()Ljava/lang/Class;" } : Jvm.MethodName)) ∈ lw_all := lw_g (lw_at lw_m3 176 rfl) rfl
theorem q1772 : (Jvm.Cond.instantiable "RoseProverbs$Script$4" (3 : Nat)) ∈ lw_all := lw_g (lw_at lw_m7 200 rfl) rfl
theorem q1774 : (Jvm.Cond.instanceMethod ({ cls := "RoseProverbs$Script$4", name := "<init>", desc := "(LRoseProverbs$Script;II)V" } : Jvm.MethodName)) ∈ lw_all := lw_g (lw_at lw_m7 202 rfl) rfl
theorem q1775 : (Jvm.Cond.code ({ cls := "RoseProverbs$Script$4", name := "<init>", desc := "(LRoseProverbs$Script;II)V" } : Jvm.MethodName) prog_17_method_1_code (4 : Nat) (Option.none : Option Jvm.ClassFile.FieldType)) ∈ lw_all := lw_g (lw_at lw_m7 203 rfl) rfl
theorem q1776 : (Jvm.Cond.methodLinkNest "RoseProverbs$Script$4" (14 : Nat) ({ cls := "RoseProverbs$Deed", name := "<init>", desc := "()V" } : Jvm.MethodName) "RoseProverbs") ∈ lw_tbl := lw_at lw_m7 204 rfl
theorem q1777 : (Jvm.Cond.fieldLink "RoseProverbs$Script$4" (7 : Nat) "RoseProverbs$Script$4" "val$setting" "I") ∈ lw_all := lw_g (lw_at lw_m7 205 rfl) rfl
theorem q1778 : (Jvm.Cond.fieldLink "RoseProverbs$Script$4" (11 : Nat) "RoseProverbs$Script$4" "val$value" "I") ∈ lw_all := lw_g (lw_at lw_m7 206 rfl) rfl
theorem q1779 : (Jvm.Cond.fieldLink "RoseProverbs$Script$4" (1 : Nat) "RoseProverbs$Script$4" "this$1" "LRoseProverbs$Script;") ∈ lw_all := lw_g (lw_at lw_m7 207 rfl) rfl
theorem q1780 : (Jvm.Cond.laysFinal "RoseProverbs$Script$4" "RoseProverbs$Script$4" "val$setting" "I") ∈ lw_all := lw_g (lw_at lw_m7 208 rfl) rfl
theorem q1781 : (Jvm.Cond.soleField "RoseProverbs$Script$4" "val$setting") ∈ lw_all := lw_g (lw_at lw_m7 209 rfl) rfl
theorem q1782 : (Jvm.Cond.laysFinal "RoseProverbs$Script$4" "RoseProverbs$Script$4" "val$value" "I") ∈ lw_all := lw_g (lw_at lw_m7 210 rfl) rfl
theorem q1783 : (Jvm.Cond.soleField "RoseProverbs$Script$4" "val$value") ∈ lw_all := lw_g (lw_at lw_m7 211 rfl) rfl
theorem q1784 : (Jvm.Cond.laysFinal "RoseProverbs$Script$4" "RoseProverbs$Script$4" "this$1" "LRoseProverbs$Script;") ∈ lw_all := lw_g (lw_at lw_m7 212 rfl) rfl
theorem q1785 : (Jvm.Cond.soleField "RoseProverbs$Script$4" "this$1") ∈ lw_all := lw_g (lw_at lw_m7 213 rfl) rfl
theorem q1786 : (Jvm.Cond.superclass "RoseProverbs$Script$4" "RoseProverbs$Deed") ∈ lw_all := lw_g (lw_at lw_m7 214 rfl) rfl
theorem q2016 : (Jvm.Cond.selects "RoseProverbs$Script$4" ({ cls := "RoseProverbs$Deed", name := "does", desc := "(LRoseProverbs$Rose;)Z" } : Jvm.MethodName) ({ cls := "RoseProverbs$Script$4", name := "does", desc := "(LRoseProverbs$Rose;)Z" } : Jvm.MethodName)) ∈ lw_all := lw_g (lw_at lw_m8 204 rfl) rfl
theorem q2017 : (Jvm.Cond.instanceMethod ({ cls := "RoseProverbs$Script$4", name := "does", desc := "(LRoseProverbs$Rose;)Z" } : Jvm.MethodName)) ∈ lw_all := lw_g (lw_at lw_m8 205 rfl) rfl
theorem q2018 : (Jvm.Cond.code ({ cls := "RoseProverbs$Script$4", name := "does", desc := "(LRoseProverbs$Rose;)Z" } : Jvm.MethodName) prog_17_method_2_code (2 : Nat) (Option.some Jvm.ClassFile.FieldType.boolean)) ∈ lw_all := lw_g (lw_at lw_m8 206 rfl) rfl
theorem q2019 : (Jvm.Cond.methodLink "RoseProverbs$Script$4" (20 : Nat) ({ cls := "RoseProverbs$Rose", name := "sets", desc := "(II)I" } : Jvm.MethodName)) ∈ lw_all := lw_g (lw_at lw_m8 207 rfl) rfl
theorem q3589 : (Jvm.Cond.castable "RoseProverbs$Script$4" "RoseProverbs$Deed") ∈ lw_tbl := lw_at lw_m15 97 rfl
theorem q3613 : (Jvm.Cond.castable "RoseProverbs$Script$4" "java/lang/Object") ∈ lw_tbl := lw_at lw_m15 121 rfl
theorem in_X14 : ∀ w ∈ wsX140, w ∈ lw_all := lw_in wsX140 [1780, 1782, 1784] (by decide +kernel) (by decide +kernel)
/-! RoseProverbs$Ring -/
set_option maxRecDepth 100000
def RX15 : String := "RoseProverbs$Ring"
abbrev cX15_monthOf : ByteArray := prog_7_method_4_code
def yX15_monthOf : MethodName := ⟨RX15, "monthOf", "(I)I"⟩
def dkwX15_monthOf_0 : List UInt8 := [26, 16, 30, 108, 16, 12, 112, 172]
abbrev dktX15_monthOf_0 : List UInt8 := dkwX15_monthOf_0 ++ []
theorem dksX15_monthOf_0 : cX15_monthOf.data.toList.drop 0 = dktX15_monthOf_0 := by decide +kernel
theorem dX15_monthOf_0 : decode cX15_monthOf 0 = .ok (.iload_n 0, 1) := dk_26 (dk_at dksX15_monthOf_0 0 rfl rfl)
theorem dX15_monthOf_1 : decode cX15_monthOf 1 = .ok (.bipush 30, 2) := dk_16 30 (dk_at dksX15_monthOf_0 1 rfl rfl)
theorem dX15_monthOf_3 : decode cX15_monthOf 3 = .ok (.idiv, 1) := dk_108 (dk_at dksX15_monthOf_0 3 rfl rfl)
theorem dX15_monthOf_4 : decode cX15_monthOf 4 = .ok (.bipush 12, 2) := dk_16 12 (dk_at dksX15_monthOf_0 4 rfl rfl)
theorem dX15_monthOf_6 : decode cX15_monthOf 6 = .ok (.irem, 1) := dk_112 (dk_at dksX15_monthOf_0 6 rfl rfl)
theorem dX15_monthOf_7 : decode cX15_monthOf 7 = .ok (.ireturn, 1) := dk_172 (dk_at dksX15_monthOf_0 7 rfl rfl)
abbrev cX15_isBetween : ByteArray := prog_7_method_2_code
def yX15_isBetween : MethodName := ⟨RX15, "isBetween", "(III)Z"⟩
def dkwX15_isBetween_1 : List UInt8 := [172]
abbrev dktX15_isBetween_1 : List UInt8 := dkwX15_isBetween_1 ++ []
def dkwX15_isBetween_0 : List UInt8 := [42, 28, 27, 185, 0, 3, 3, 0, 42, 28, 29, 185, 0, 3, 3, 0, 163, 0, 7, 4, 167, 0, 4, 3]
abbrev dktX15_isBetween_0 : List UInt8 := dkwX15_isBetween_0 ++ dktX15_isBetween_1
theorem dksX15_isBetween_0 : cX15_isBetween.data.toList.drop 0 = dktX15_isBetween_0 := by decide +kernel
theorem dksX15_isBetween_1 : cX15_isBetween.data.toList.drop 24 = dktX15_isBetween_1 := dk_seg dksX15_isBetween_0 24 rfl rfl
theorem dX15_isBetween_0 : decode cX15_isBetween 0 = .ok (.aload_n 0, 1) := dk_42 (dk_at dksX15_isBetween_0 0 rfl rfl)
theorem dX15_isBetween_1 : decode cX15_isBetween 1 = .ok (.iload_n 2, 1) := dk_28 (dk_at dksX15_isBetween_0 1 rfl rfl)
theorem dX15_isBetween_2 : decode cX15_isBetween 2 = .ok (.iload_n 1, 1) := dk_27 (dk_at dksX15_isBetween_0 2 rfl rfl)
theorem dX15_isBetween_3 : decode cX15_isBetween 3 = .ok (.invokeinterface 3 3, 5) := by decide +kernel
theorem dX15_isBetween_8 : decode cX15_isBetween 8 = .ok (.aload_n 0, 1) := dk_42 (dk_at dksX15_isBetween_0 8 rfl rfl)
theorem dX15_isBetween_9 : decode cX15_isBetween 9 = .ok (.iload_n 2, 1) := dk_28 (dk_at dksX15_isBetween_0 9 rfl rfl)
theorem dX15_isBetween_10 : decode cX15_isBetween 10 = .ok (.iload_n 3, 1) := dk_29 (dk_at dksX15_isBetween_0 10 rfl rfl)
theorem dX15_isBetween_11 : decode cX15_isBetween 11 = .ok (.invokeinterface 3 3, 5) := by decide +kernel
theorem dX15_isBetween_16 : decode cX15_isBetween 16 = .ok (.if_icmp .gt 7, 3) := dk_163 0 7 (dk_at dksX15_isBetween_0 16 rfl rfl)
theorem dX15_isBetween_19 : decode cX15_isBetween 19 = .ok (.iconst 1, 1) := dk_4 (dk_at dksX15_isBetween_0 19 rfl rfl)
theorem dX15_isBetween_20 : decode cX15_isBetween 20 = .ok (.goto 4, 3) := dk_167 0 4 (dk_at dksX15_isBetween_0 20 rfl rfl)
theorem dX15_isBetween_23 : decode cX15_isBetween 23 = .ok (.iconst 0, 1) := dk_3 (dk_at dksX15_isBetween_0 23 rfl rfl)
theorem dX15_isBetween_24 : decode cX15_isBetween 24 = .ok (.ireturn, 1) := dk_172 (dk_at dksX15_isBetween_1 0 rfl rfl)
abbrev cX15_steps : ByteArray := prog_7_method_3_code
def yX15_steps : MethodName := ⟨RX15, "steps", "(II)I"⟩
def dkwX15_steps_0 : List UInt8 := [28, 27, 100, 42, 185, 0, 9, 1, 0, 96, 42, 185, 0, 9, 1, 0, 112, 172]
abbrev dktX15_steps_0 : List UInt8 := dkwX15_steps_0 ++ []
theorem dksX15_steps_0 : cX15_steps.data.toList.drop 0 = dktX15_steps_0 := by decide +kernel
theorem dX15_steps_0 : decode cX15_steps 0 = .ok (.iload_n 2, 1) := dk_28 (dk_at dksX15_steps_0 0 rfl rfl)
theorem dX15_steps_1 : decode cX15_steps 1 = .ok (.iload_n 1, 1) := dk_27 (dk_at dksX15_steps_0 1 rfl rfl)
theorem dX15_steps_2 : decode cX15_steps 2 = .ok (.isub, 1) := dk_100 (dk_at dksX15_steps_0 2 rfl rfl)
theorem dX15_steps_3 : decode cX15_steps 3 = .ok (.aload_n 0, 1) := dk_42 (dk_at dksX15_steps_0 3 rfl rfl)
theorem dX15_steps_4 : decode cX15_steps 4 = .ok (.invokeinterface 9 1, 5) := by decide +kernel
theorem dX15_steps_9 : decode cX15_steps 9 = .ok (.iadd, 1) := dk_96 (dk_at dksX15_steps_0 9 rfl rfl)
theorem dX15_steps_10 : decode cX15_steps 10 = .ok (.aload_n 0, 1) := dk_42 (dk_at dksX15_steps_0 10 rfl rfl)
theorem dX15_steps_11 : decode cX15_steps 11 = .ok (.invokeinterface 9 1, 5) := by decide +kernel
theorem dX15_steps_16 : decode cX15_steps 16 = .ok (.irem, 1) := dk_112 (dk_at dksX15_steps_0 16 rfl rfl)
theorem dX15_steps_17 : decode cX15_steps 17 = .ok (.ireturn, 1) := dk_172 (dk_at dksX15_steps_0 17 rfl rfl)
theorem q181 : (Jvm.Cond.initialized "RoseProverbs$Ring") ∈ lw_all := lw_g (lw_at lw_m1 49 rfl) rfl
theorem q1888 : (Jvm.Cond.static ({ cls := "RoseProverbs$Ring", name := "monthOf", desc := "(I)I" } : Jvm.MethodName)) ∈ lw_all := lw_g (lw_at lw_m8 76 rfl) rfl
theorem q1889 : (Jvm.Cond.code ({ cls := "RoseProverbs$Ring", name := "monthOf", desc := "(I)I" } : Jvm.MethodName) prog_7_method_4_code (1 : Nat) (Option.some Jvm.ClassFile.FieldType.int)) ∈ lw_all := lw_g (lw_at lw_m8 77 rfl) rfl
theorem q1913 : (Jvm.Cond.declares ({ cls := "RoseProverbs$Ring", name := "isBetween", desc := "(III)Z" } : Jvm.MethodName)) ∈ lw_tbl := lw_at lw_m8 101 rfl
theorem q1915 : (Jvm.Cond.instanceMethod ({ cls := "RoseProverbs$Ring", name := "isBetween", desc := "(III)Z" } : Jvm.MethodName)) ∈ lw_all := lw_g (lw_at lw_m8 103 rfl) rfl
theorem q1916 : (Jvm.Cond.publicMethod ({ cls := "RoseProverbs$Ring", name := "isBetween", desc := "(III)Z" } : Jvm.MethodName)) ∈ lw_tbl := lw_at lw_m8 104 rfl
theorem q1917 : (Jvm.Cond.code ({ cls := "RoseProverbs$Ring", name := "isBetween", desc := "(III)Z" } : Jvm.MethodName) prog_7_method_2_code (4 : Nat) (Option.some Jvm.ClassFile.FieldType.boolean)) ∈ lw_all := lw_g (lw_at lw_m8 105 rfl) rfl
theorem q1918 : (Jvm.Cond.interfaceEntry "RoseProverbs$Ring" (3 : Nat)) ∈ lw_tbl := lw_at lw_m8 106 rfl
theorem q1919 : (Jvm.Cond.methodLink "RoseProverbs$Ring" (3 : Nat) ({ cls := "RoseProverbs$Ring", name := "steps", desc := "(II)I" } : Jvm.MethodName)) ∈ lw_all := lw_g (lw_at lw_m8 107 rfl) rfl
theorem q1920 : (Jvm.Cond.interfaceMethod "RoseProverbs$Ring" "RoseProverbs$Ring" "steps" "(II)I") ∈ lw_tbl := lw_at lw_m8 108 rfl
theorem q1921 : (Jvm.Cond.declares ({ cls := "RoseProverbs$Ring", name := "steps", desc := "(II)I" } : Jvm.MethodName)) ∈ lw_tbl := lw_at lw_m8 109 rfl
theorem q1924 : (Jvm.Cond.instanceMethod ({ cls := "RoseProverbs$Ring", name := "steps", desc := "(II)I" } : Jvm.MethodName)) ∈ lw_all := lw_g (lw_at lw_m8 112 rfl) rfl
theorem q1925 : (Jvm.Cond.publicMethod ({ cls := "RoseProverbs$Ring", name := "steps", desc := "(II)I" } : Jvm.MethodName)) ∈ lw_tbl := lw_at lw_m8 113 rfl
theorem q1926 : (Jvm.Cond.code ({ cls := "RoseProverbs$Ring", name := "steps", desc := "(II)I" } : Jvm.MethodName) prog_7_method_3_code (3 : Nat) (Option.some Jvm.ClassFile.FieldType.int)) ∈ lw_all := lw_g (lw_at lw_m8 114 rfl) rfl
theorem q1927 : (Jvm.Cond.interfaceEntry "RoseProverbs$Ring" (9 : Nat)) ∈ lw_tbl := lw_at lw_m8 115 rfl
theorem q1928 : (Jvm.Cond.methodLink "RoseProverbs$Ring" (9 : Nat) ({ cls := "RoseProverbs$Ring", name := "size", desc := "()I" } : Jvm.MethodName)) ∈ lw_all := lw_g (lw_at lw_m8 116 rfl) rfl
theorem q1929 : (Jvm.Cond.interfaceMethod "RoseProverbs$Ring" "RoseProverbs$Ring" "size" "()I") ∈ lw_tbl := lw_at lw_m8 117 rfl
theorem q1930 : (Jvm.Cond.declares ({ cls := "RoseProverbs$Ring", name := "size", desc := "()I" } : Jvm.MethodName)) ∈ lw_tbl := lw_at lw_m8 118 rfl
/-! RoseProverbs$Rose$Speakers -/
set_option maxRecDepth 100000
def RX16 : String := "RoseProverbs$Rose$Speakers"
def TX16 : u_T := fun k => match k with
  | 0 => ("RoseProverbs$Rose$Speakers", "point", "I", true)
  | 1 => ("RoseProverbs$Rose$Speakers", "month", "I", true)
  | _ => ("RoseProverbs$Rose$Speakers", "this$0", "LRoseProverbs$Rose;", true)
def tyX16 : Nat → FieldType := fun k => match k with
  | 0 => .int
  | 1 => .int
  | _ => .object "RoseProverbs$Rose"
abbrev wsX160 : List Cond := u_ws RX16 TX16 3
theorem nmX16 : ∀ a, a < 3 → ∀ b, b < 3 → a ≠ b → (TX16 a).2.1 ≠ (TX16 b).2.1 := by decide +kernel
theorem tyX16_ok : ∀ k, k < 3 → parseFieldDescriptor (TX16 k).2.2.1 = some (tyX16 k) := by decide +kernel
abbrev cX16_init : ByteArray := prog_9_method_1_code
def yX16_init : MethodName := ⟨RX16, "<init>", "(LRoseProverbs$Rose;II)V"⟩
def dkwX16_init_0 : List UInt8 := [42, 43, 181, 0, 1, 42, 183, 0, 7, 42, 28, 181, 0, 13, 42, 29, 181, 0, 17, 177]
abbrev dktX16_init_0 : List UInt8 := dkwX16_init_0 ++ []
theorem dksX16_init_0 : cX16_init.data.toList.drop 0 = dktX16_init_0 := by decide +kernel
theorem dX16_init_0 : decode cX16_init 0 = .ok (.aload_n 0, 1) := dk_42 (dk_at dksX16_init_0 0 rfl rfl)
theorem dX16_init_1 : decode cX16_init 1 = .ok (.aload_n 1, 1) := dk_43 (dk_at dksX16_init_0 1 rfl rfl)
theorem dX16_init_2 : decode cX16_init 2 = .ok (.putfield 1, 3) := dk_181 0 1 (dk_at dksX16_init_0 2 rfl rfl)
theorem dX16_init_5 : decode cX16_init 5 = .ok (.aload_n 0, 1) := dk_42 (dk_at dksX16_init_0 5 rfl rfl)
theorem dX16_init_6 : decode cX16_init 6 = .ok (.invokespecial 7, 3) := dk_183 0 7 (dk_at dksX16_init_0 6 rfl rfl)
theorem dX16_init_9 : decode cX16_init 9 = .ok (.aload_n 0, 1) := dk_42 (dk_at dksX16_init_0 9 rfl rfl)
theorem dX16_init_10 : decode cX16_init 10 = .ok (.iload_n 2, 1) := dk_28 (dk_at dksX16_init_0 10 rfl rfl)
theorem dX16_init_11 : decode cX16_init 11 = .ok (.putfield 13, 3) := dk_181 0 13 (dk_at dksX16_init_0 11 rfl rfl)
theorem dX16_init_14 : decode cX16_init 14 = .ok (.aload_n 0, 1) := dk_42 (dk_at dksX16_init_0 14 rfl rfl)
theorem dX16_init_15 : decode cX16_init 15 = .ok (.iload_n 3, 1) := dk_29 (dk_at dksX16_init_0 15 rfl rfl)
theorem dX16_init_16 : decode cX16_init 16 = .ok (.putfield 17, 3) := dk_181 0 17 (dk_at dksX16_init_0 16 rfl rfl)
theorem dX16_init_19 : decode cX16_init 19 = .ok (.return_, 1) := dk_177 (dk_at dksX16_init_0 19 rfl rfl)
abbrev cX16_iterator : ByteArray := prog_9_method_2_code
def yX16_iterator : MethodName := ⟨RX16, "iterator", "()Ljava/util/Iterator;"⟩
def dkwX16_iterator_0 : List UInt8 := [187, 0, 20, 89, 42, 183, 0, 22, 176]
abbrev dktX16_iterator_0 : List UInt8 := dkwX16_iterator_0 ++ []
theorem dksX16_iterator_0 : cX16_iterator.data.toList.drop 0 = dktX16_iterator_0 := by decide +kernel
theorem dX16_iterator_0 : decode cX16_iterator 0 = .ok (.new 20, 3) := dk_187 0 20 (dk_at dksX16_iterator_0 0 rfl rfl)
theorem dX16_iterator_3 : decode cX16_iterator 3 = .ok (.dup, 1) := dk_89 (dk_at dksX16_iterator_0 3 rfl rfl)
theorem dX16_iterator_4 : decode cX16_iterator 4 = .ok (.aload_n 0, 1) := dk_42 (dk_at dksX16_iterator_0 4 rfl rfl)
theorem dX16_iterator_5 : decode cX16_iterator 5 = .ok (.invokespecial 22, 3) := dk_183 0 22 (dk_at dksX16_iterator_0 5 rfl rfl)
theorem dX16_iterator_8 : decode cX16_iterator 8 = .ok (.areturn, 1) := dk_176 (dk_at dksX16_iterator_0 8 rfl rfl)
theorem q185 : (Jvm.Cond.initialized "RoseProverbs$Rose$Speakers") ∈ lw_all := lw_g (lw_at lw_m1 53 rfl) rfl
theorem q780 : (Jvm.Cond.selects "RoseProverbs$Rose$Speakers" ({ cls := "java/lang/Object", name := "getClass", desc := "()Ljava/lang/Class;" } : Jvm.MethodName) ({ cls := "java/lang/Object", name := "getClass", desc := "()Ljava/lang/Class;" } : Jvm.MethodName)) ∈ lw_all := lw_g (lw_at lw_m3 168 rfl) rfl
theorem q2628 : (Jvm.Cond.instantiable "RoseProverbs$Rose$Speakers" (3 : Nat)) ∈ lw_all := lw_g (lw_at lw_m11 96 rfl) rfl
theorem q2630 : (Jvm.Cond.instanceMethod ({ cls := "RoseProverbs$Rose$Speakers", name := "<init>", desc := "(LRoseProverbs$Rose;II)V" } : Jvm.MethodName)) ∈ lw_all := lw_g (lw_at lw_m11 98 rfl) rfl
theorem q2631 : (Jvm.Cond.code ({ cls := "RoseProverbs$Rose$Speakers", name := "<init>", desc := "(LRoseProverbs$Rose;II)V" } : Jvm.MethodName) prog_9_method_1_code (4 : Nat) (Option.none : Option Jvm.ClassFile.FieldType)) ∈ lw_all := lw_g (lw_at lw_m11 99 rfl) rfl
theorem q2632 : (Jvm.Cond.methodLink "RoseProverbs$Rose$Speakers" (7 : Nat) ({ cls := "java/lang/Object", name := "<init>", desc := "()V" } : Jvm.MethodName)) ∈ lw_all := lw_g (lw_at lw_m11 100 rfl) rfl
theorem q2633 : (Jvm.Cond.fieldLink "RoseProverbs$Rose$Speakers" (13 : Nat) "RoseProverbs$Rose$Speakers" "point" "I") ∈ lw_all := lw_g (lw_at lw_m11 101 rfl) rfl
theorem q2635 : (Jvm.Cond.fieldLink "RoseProverbs$Rose$Speakers" (17 : Nat) "RoseProverbs$Rose$Speakers" "month" "I") ∈ lw_all := lw_g (lw_at lw_m11 103 rfl) rfl
theorem q2637 : (Jvm.Cond.fieldLink "RoseProverbs$Rose$Speakers" (1 : Nat) "RoseProverbs$Rose$Speakers" "this$0" "LRoseProverbs$Rose;") ∈ lw_all := lw_g (lw_at lw_m11 105 rfl) rfl
theorem q2639 : (Jvm.Cond.laysFinal "RoseProverbs$Rose$Speakers" "RoseProverbs$Rose$Speakers" "point" "I") ∈ lw_all := lw_g (lw_at lw_m11 107 rfl) rfl
theorem q2640 : (Jvm.Cond.soleField "RoseProverbs$Rose$Speakers" "point") ∈ lw_all := lw_g (lw_at lw_m11 108 rfl) rfl
theorem q2641 : (Jvm.Cond.laysFinal "RoseProverbs$Rose$Speakers" "RoseProverbs$Rose$Speakers" "month" "I") ∈ lw_all := lw_g (lw_at lw_m11 109 rfl) rfl
theorem q2642 : (Jvm.Cond.soleField "RoseProverbs$Rose$Speakers" "month") ∈ lw_all := lw_g (lw_at lw_m11 110 rfl) rfl
theorem q2643 : (Jvm.Cond.laysFinal "RoseProverbs$Rose$Speakers" "RoseProverbs$Rose$Speakers" "this$0" "LRoseProverbs$Rose;") ∈ lw_all := lw_g (lw_at lw_m11 111 rfl) rfl
theorem q2644 : (Jvm.Cond.soleField "RoseProverbs$Rose$Speakers" "this$0") ∈ lw_all := lw_g (lw_at lw_m11 112 rfl) rfl
theorem q2645 : (Jvm.Cond.superclass "RoseProverbs$Rose$Speakers" "java/lang/Object") ∈ lw_all := lw_g (lw_at lw_m11 113 rfl) rfl
theorem q2647 : (Jvm.Cond.instanceMethod ({ cls := "RoseProverbs$Rose$Speakers", name := "iterator", desc := "()Ljava/util/Iterator;" } : Jvm.MethodName)) ∈ lw_all := lw_g (lw_at lw_m11 115 rfl) rfl
theorem q2648 : (Jvm.Cond.selects "RoseProverbs$Rose$Speakers" ({ cls := "RoseProverbs$Rose$Speakers", name := "iterator", desc := "()Ljava/util/Iterator;" } : Jvm.MethodName) ({ cls := "RoseProverbs$Rose$Speakers", name := "iterator", desc := "()Ljava/util/Iterator;" } : Jvm.MethodName)) ∈ lw_all := lw_g (lw_at lw_m11 116 rfl) rfl
theorem q2649 : (Jvm.Cond.code ({ cls := "RoseProverbs$Rose$Speakers", name := "iterator", desc := "()Ljava/util/Iterator;" } : Jvm.MethodName) prog_9_method_2_code (1 : Nat) (Option.some (Jvm.ClassFile.FieldType.object "java/util/Iterator"))) ∈ lw_all := lw_g (lw_at lw_m11 117 rfl) rfl
theorem q2650 : (Jvm.Cond.classLink "RoseProverbs$Rose$Speakers" (20 : Nat) "RoseProverbs$Rose$Speakers$1") ∈ lw_all := lw_g (lw_at lw_m11 118 rfl) rfl
theorem q2651 : (Jvm.Cond.methodLink "RoseProverbs$Rose$Speakers" (22 : Nat) ({ cls := "RoseProverbs$Rose$Speakers$1", name := "<init>", desc := "(LRoseProverbs$Rose$Speakers;)V" } : Jvm.MethodName)) ∈ lw_all := lw_g (lw_at lw_m11 119 rfl) rfl
theorem q3620 : (Jvm.Cond.castable "RoseProverbs$Rose$Speakers" "java/lang/Object") ∈ lw_tbl := lw_at lw_m15 128 rfl
theorem in_X16 : ∀ w ∈ wsX160, w ∈ lw_all := lw_in wsX160 [2639, 2641, 2643] (by decide +kernel) (by decide +kernel)
/-! RoseProverbs$Rose$Speakers$1 -/
set_option maxRecDepth 100000
def RX17 : String := "RoseProverbs$Rose$Speakers$1"
def TX17 : u_T := fun k => match k with
  | 0 => ("RoseProverbs$Rose$Speakers$1", "next", "I", false)
  | _ => ("RoseProverbs$Rose$Speakers$1", "this$1", "LRoseProverbs$Rose$Speakers;", true)
def tyX17 : Nat → FieldType := fun k => match k with
  | 0 => .int
  | _ => .object "RoseProverbs$Rose$Speakers"
abbrev wsX170 : List Cond := u_ws RX17 TX17 2
theorem nmX17 : ∀ a, a < 2 → ∀ b, b < 2 → a ≠ b → (TX17 a).2.1 ≠ (TX17 b).2.1 := by decide +kernel
theorem tyX17_ok : ∀ k, k < 2 → parseFieldDescriptor (TX17 k).2.2.1 = some (tyX17 k) := by decide +kernel
abbrev cX17_hasNext : ByteArray := prog_10_method_3_code
def yX17_hasNext : MethodName := ⟨RX17, "hasNext", "()Z"⟩
def dkwX17_hasNext_1 : List UInt8 := [167, 0, 4, 3, 172]
abbrev dktX17_hasNext_1 : List UInt8 := dkwX17_hasNext_1 ++ []
def dkwX17_hasNext_0 : List UInt8 := [42, 180, 0, 17, 42, 180, 0, 1, 180, 0, 21, 180, 0, 27, 185, 0, 33, 1, 0, 162, 0, 7, 4]
abbrev dktX17_hasNext_0 : List UInt8 := dkwX17_hasNext_0 ++ dktX17_hasNext_1
theorem dksX17_hasNext_0 : cX17_hasNext.data.toList.drop 0 = dktX17_hasNext_0 := by decide +kernel
theorem dksX17_hasNext_1 : cX17_hasNext.data.toList.drop 23 = dktX17_hasNext_1 := dk_seg dksX17_hasNext_0 23 rfl rfl
theorem dX17_hasNext_0 : decode cX17_hasNext 0 = .ok (.aload_n 0, 1) := dk_42 (dk_at dksX17_hasNext_0 0 rfl rfl)
theorem dX17_hasNext_1 : decode cX17_hasNext 1 = .ok (.getfield 17, 3) := dk_180 0 17 (dk_at dksX17_hasNext_0 1 rfl rfl)
theorem dX17_hasNext_4 : decode cX17_hasNext 4 = .ok (.aload_n 0, 1) := dk_42 (dk_at dksX17_hasNext_0 4 rfl rfl)
theorem dX17_hasNext_5 : decode cX17_hasNext 5 = .ok (.getfield 1, 3) := dk_180 0 1 (dk_at dksX17_hasNext_0 5 rfl rfl)
theorem dX17_hasNext_8 : decode cX17_hasNext 8 = .ok (.getfield 21, 3) := dk_180 0 21 (dk_at dksX17_hasNext_0 8 rfl rfl)
theorem dX17_hasNext_11 : decode cX17_hasNext 11 = .ok (.getfield 27, 3) := dk_180 0 27 (dk_at dksX17_hasNext_0 11 rfl rfl)
theorem dX17_hasNext_14 : decode cX17_hasNext 14 = .ok (.invokeinterface 33 1, 5) := by decide +kernel
theorem dX17_hasNext_19 : decode cX17_hasNext 19 = .ok (.if_icmp .ge 7, 3) := dk_162 0 7 (dk_at dksX17_hasNext_0 19 rfl rfl)
theorem dX17_hasNext_22 : decode cX17_hasNext 22 = .ok (.iconst 1, 1) := dk_4 (dk_at dksX17_hasNext_0 22 rfl rfl)
theorem dX17_hasNext_23 : decode cX17_hasNext 23 = .ok (.goto 4, 3) := dk_167 0 4 (dk_at dksX17_hasNext_1 0 rfl rfl)
theorem dX17_hasNext_26 : decode cX17_hasNext 26 = .ok (.iconst 0, 1) := dk_3 (dk_at dksX17_hasNext_1 3 rfl rfl)
theorem dX17_hasNext_27 : decode cX17_hasNext 27 = .ok (.ireturn, 1) := dk_172 (dk_at dksX17_hasNext_1 4 rfl rfl)
abbrev cX17_next : ByteArray := prog_10_method_5_code
def yX17_next : MethodName := ⟨RX17, "next", "()Ljava/lang/Object;"⟩
theorem dX17_next_0 : decode cX17_next 0 = .ok (.aload_n 0, 1) := by decide +kernel
theorem dX17_next_1 : decode cX17_next 1 = .ok (.invokevirtual 65, 3) := by decide +kernel
theorem dX17_next_4 : decode cX17_next 4 = .ok (.areturn, 1) := by decide +kernel
abbrev cX17_next_2 : ByteArray := prog_10_method_4_code
def yX17_next_2 : MethodName := ⟨RX17, "next", "()LRoseProverbs$Proverb;"⟩
def dkwX17_next_2_1 : List UInt8 := [42, 180, 0, 17, 4, 96, 182, 0, 13, 181, 0, 17, 43, 176]
abbrev dktX17_next_2_1 : List UInt8 := dkwX17_next_2_1 ++ []
def dkwX17_next_2_0 : List UInt8 := [42, 182, 0, 55, 184, 0, 59, 42, 180, 0, 1, 180, 0, 21, 42, 180, 0, 17, 182, 0, 39, 76, 42, 42]
abbrev dktX17_next_2_0 : List UInt8 := dkwX17_next_2_0 ++ dktX17_next_2_1
theorem dksX17_next_2_0 : cX17_next_2.data.toList.drop 0 = dktX17_next_2_0 := by decide +kernel
theorem dksX17_next_2_1 : cX17_next_2.data.toList.drop 24 = dktX17_next_2_1 := dk_seg dksX17_next_2_0 24 rfl rfl
theorem dX17_next_2_0 : decode cX17_next_2 0 = .ok (.aload_n 0, 1) := dk_42 (dk_at dksX17_next_2_0 0 rfl rfl)
theorem dX17_next_2_1 : decode cX17_next_2 1 = .ok (.invokevirtual 55, 3) := dk_182 0 55 (dk_at dksX17_next_2_0 1 rfl rfl)
theorem dX17_next_2_4 : decode cX17_next_2 4 = .ok (.invokestatic 59, 3) := dk_184 0 59 (dk_at dksX17_next_2_0 4 rfl rfl)
theorem dX17_next_2_7 : decode cX17_next_2 7 = .ok (.aload_n 0, 1) := dk_42 (dk_at dksX17_next_2_0 7 rfl rfl)
theorem dX17_next_2_8 : decode cX17_next_2 8 = .ok (.getfield 1, 3) := dk_180 0 1 (dk_at dksX17_next_2_0 8 rfl rfl)
theorem dX17_next_2_11 : decode cX17_next_2 11 = .ok (.getfield 21, 3) := dk_180 0 21 (dk_at dksX17_next_2_0 11 rfl rfl)
theorem dX17_next_2_14 : decode cX17_next_2 14 = .ok (.aload_n 0, 1) := dk_42 (dk_at dksX17_next_2_0 14 rfl rfl)
theorem dX17_next_2_15 : decode cX17_next_2 15 = .ok (.getfield 17, 3) := dk_180 0 17 (dk_at dksX17_next_2_0 15 rfl rfl)
theorem dX17_next_2_18 : decode cX17_next_2 18 = .ok (.invokevirtual 39, 3) := dk_182 0 39 (dk_at dksX17_next_2_0 18 rfl rfl)
theorem dX17_next_2_21 : decode cX17_next_2 21 = .ok (.astore_n 1, 1) := dk_76 (dk_at dksX17_next_2_0 21 rfl rfl)
theorem dX17_next_2_22 : decode cX17_next_2 22 = .ok (.aload_n 0, 1) := dk_42 (dk_at dksX17_next_2_0 22 rfl rfl)
theorem dX17_next_2_23 : decode cX17_next_2 23 = .ok (.aload_n 0, 1) := dk_42 (dk_at dksX17_next_2_0 23 rfl rfl)
theorem dX17_next_2_24 : decode cX17_next_2 24 = .ok (.aload_n 0, 1) := dk_42 (dk_at dksX17_next_2_1 0 rfl rfl)
theorem dX17_next_2_25 : decode cX17_next_2 25 = .ok (.getfield 17, 3) := dk_180 0 17 (dk_at dksX17_next_2_1 1 rfl rfl)
theorem dX17_next_2_28 : decode cX17_next_2 28 = .ok (.iconst 1, 1) := dk_4 (dk_at dksX17_next_2_1 4 rfl rfl)
theorem dX17_next_2_29 : decode cX17_next_2 29 = .ok (.iadd, 1) := dk_96 (dk_at dksX17_next_2_1 5 rfl rfl)
theorem dX17_next_2_30 : decode cX17_next_2 30 = .ok (.invokevirtual 13, 3) := dk_182 0 13 (dk_at dksX17_next_2_1 6 rfl rfl)
theorem dX17_next_2_33 : decode cX17_next_2 33 = .ok (.putfield 17, 3) := dk_181 0 17 (dk_at dksX17_next_2_1 9 rfl rfl)
theorem dX17_next_2_36 : decode cX17_next_2 36 = .ok (.aload_n 1, 1) := dk_43 (dk_at dksX17_next_2_1 12 rfl rfl)
theorem dX17_next_2_37 : decode cX17_next_2 37 = .ok (.areturn, 1) := dk_176 (dk_at dksX17_next_2_1 13 rfl rfl)
abbrev cX17_from : ByteArray := prog_10_method_2_code
def yX17_from : MethodName := ⟨RX17, "from", "(I)I"⟩
def dkwX17_from_2 : List UInt8 := [182, 0, 49, 154, 0, 9, 132, 2, 1, 167, 255, 203, 28, 172]
abbrev dktX17_from_2 : List UInt8 := dkwX17_from_2 ++ []
def dkwX17_from_1 : List UInt8 := [180, 0, 1, 180, 0, 21, 28, 182, 0, 39, 42, 180, 0, 1, 180, 0, 43, 42, 180, 0, 1, 180, 0, 46]
abbrev dktX17_from_1 : List UInt8 := dkwX17_from_1 ++ dktX17_from_2
def dkwX17_from_0 : List UInt8 := [27, 61, 28, 42, 180, 0, 1, 180, 0, 21, 180, 0, 27, 185, 0, 33, 1, 0, 162, 0, 40, 42]
abbrev dktX17_from_0 : List UInt8 := dkwX17_from_0 ++ dktX17_from_1
theorem dksX17_from_0 : cX17_from.data.toList.drop 0 = dktX17_from_0 := by decide +kernel
theorem dksX17_from_1 : cX17_from.data.toList.drop 22 = dktX17_from_1 := dk_seg dksX17_from_0 22 rfl rfl
theorem dksX17_from_2 : cX17_from.data.toList.drop 46 = dktX17_from_2 := dk_seg dksX17_from_1 24 rfl rfl
theorem dX17_from_0 : decode cX17_from 0 = .ok (.iload_n 1, 1) := dk_27 (dk_at dksX17_from_0 0 rfl rfl)
theorem dX17_from_1 : decode cX17_from 1 = .ok (.istore_n 2, 1) := dk_61 (dk_at dksX17_from_0 1 rfl rfl)
theorem dX17_from_2 : decode cX17_from 2 = .ok (.iload_n 2, 1) := dk_28 (dk_at dksX17_from_0 2 rfl rfl)
theorem dX17_from_3 : decode cX17_from 3 = .ok (.aload_n 0, 1) := dk_42 (dk_at dksX17_from_0 3 rfl rfl)
theorem dX17_from_4 : decode cX17_from 4 = .ok (.getfield 1, 3) := dk_180 0 1 (dk_at dksX17_from_0 4 rfl rfl)
theorem dX17_from_7 : decode cX17_from 7 = .ok (.getfield 21, 3) := dk_180 0 21 (dk_at dksX17_from_0 7 rfl rfl)
theorem dX17_from_10 : decode cX17_from 10 = .ok (.getfield 27, 3) := dk_180 0 27 (dk_at dksX17_from_0 10 rfl rfl)
theorem dX17_from_13 : decode cX17_from 13 = .ok (.invokeinterface 33 1, 5) := by decide +kernel
theorem dX17_from_18 : decode cX17_from 18 = .ok (.if_icmp .ge 40, 3) := dk_162 0 40 (dk_at dksX17_from_0 18 rfl rfl)
theorem dX17_from_21 : decode cX17_from 21 = .ok (.aload_n 0, 1) := dk_42 (dk_at dksX17_from_0 21 rfl rfl)
theorem dX17_from_22 : decode cX17_from 22 = .ok (.getfield 1, 3) := dk_180 0 1 (dk_at dksX17_from_1 0 rfl rfl)
theorem dX17_from_25 : decode cX17_from 25 = .ok (.getfield 21, 3) := dk_180 0 21 (dk_at dksX17_from_1 3 rfl rfl)
theorem dX17_from_28 : decode cX17_from 28 = .ok (.iload_n 2, 1) := dk_28 (dk_at dksX17_from_1 6 rfl rfl)
theorem dX17_from_29 : decode cX17_from 29 = .ok (.invokevirtual 39, 3) := dk_182 0 39 (dk_at dksX17_from_1 7 rfl rfl)
theorem dX17_from_32 : decode cX17_from 32 = .ok (.aload_n 0, 1) := dk_42 (dk_at dksX17_from_1 10 rfl rfl)
theorem dX17_from_33 : decode cX17_from 33 = .ok (.getfield 1, 3) := dk_180 0 1 (dk_at dksX17_from_1 11 rfl rfl)
theorem dX17_from_36 : decode cX17_from 36 = .ok (.getfield 43, 3) := dk_180 0 43 (dk_at dksX17_from_1 14 rfl rfl)
theorem dX17_from_39 : decode cX17_from 39 = .ok (.aload_n 0, 1) := dk_42 (dk_at dksX17_from_1 17 rfl rfl)
theorem dX17_from_40 : decode cX17_from 40 = .ok (.getfield 1, 3) := dk_180 0 1 (dk_at dksX17_from_1 18 rfl rfl)
theorem dX17_from_43 : decode cX17_from 43 = .ok (.getfield 46, 3) := dk_180 0 46 (dk_at dksX17_from_1 21 rfl rfl)
theorem dX17_from_46 : decode cX17_from 46 = .ok (.invokevirtual 49, 3) := dk_182 0 49 (dk_at dksX17_from_2 0 rfl rfl)
theorem dX17_from_49 : decode cX17_from 49 = .ok (.ifCond .ne 9, 3) := dk_154 0 9 (dk_at dksX17_from_2 3 rfl rfl)
theorem dX17_from_52 : decode cX17_from 52 = .ok (.iinc 2 1, 3) := dk_132 2 1 (dk_at dksX17_from_2 6 rfl rfl)
theorem dX17_from_55 : decode cX17_from 55 = .ok (.goto (-53), 3) := dk_167 255 203 (dk_at dksX17_from_2 9 rfl rfl)
theorem dX17_from_58 : decode cX17_from 58 = .ok (.iload_n 2, 1) := dk_28 (dk_at dksX17_from_2 12 rfl rfl)
theorem dX17_from_59 : decode cX17_from 59 = .ok (.ireturn, 1) := dk_172 (dk_at dksX17_from_2 13 rfl rfl)
abbrev cX17_init : ByteArray := prog_10_method_1_code
def yX17_init : MethodName := ⟨RX17, "<init>", "(LRoseProverbs$Rose$Speakers;)V"⟩
def dkwX17_init_0 : List UInt8 := [42, 43, 181, 0, 1, 42, 183, 0, 7, 42, 42, 3, 182, 0, 13, 181, 0, 17, 177]
abbrev dktX17_init_0 : List UInt8 := dkwX17_init_0 ++ []
theorem dksX17_init_0 : cX17_init.data.toList.drop 0 = dktX17_init_0 := by decide +kernel
theorem dX17_init_0 : decode cX17_init 0 = .ok (.aload_n 0, 1) := dk_42 (dk_at dksX17_init_0 0 rfl rfl)
theorem dX17_init_1 : decode cX17_init 1 = .ok (.aload_n 1, 1) := dk_43 (dk_at dksX17_init_0 1 rfl rfl)
theorem dX17_init_2 : decode cX17_init 2 = .ok (.putfield 1, 3) := dk_181 0 1 (dk_at dksX17_init_0 2 rfl rfl)
theorem dX17_init_5 : decode cX17_init 5 = .ok (.aload_n 0, 1) := dk_42 (dk_at dksX17_init_0 5 rfl rfl)
theorem dX17_init_6 : decode cX17_init 6 = .ok (.invokespecial 7, 3) := dk_183 0 7 (dk_at dksX17_init_0 6 rfl rfl)
theorem dX17_init_9 : decode cX17_init 9 = .ok (.aload_n 0, 1) := dk_42 (dk_at dksX17_init_0 9 rfl rfl)
theorem dX17_init_10 : decode cX17_init 10 = .ok (.aload_n 0, 1) := dk_42 (dk_at dksX17_init_0 10 rfl rfl)
theorem dX17_init_11 : decode cX17_init 11 = .ok (.iconst 0, 1) := dk_3 (dk_at dksX17_init_0 11 rfl rfl)
theorem dX17_init_12 : decode cX17_init 12 = .ok (.invokevirtual 13, 3) := dk_182 0 13 (dk_at dksX17_init_0 12 rfl rfl)
theorem dX17_init_15 : decode cX17_init 15 = .ok (.putfield 17, 3) := dk_181 0 17 (dk_at dksX17_init_0 15 rfl rfl)
theorem dX17_init_18 : decode cX17_init 18 = .ok (.return_, 1) := dk_177 (dk_at dksX17_init_0 18 rfl rfl)
theorem q186 : (Jvm.Cond.initialized "RoseProverbs$Rose$Speakers$1") ∈ lw_all := lw_g (lw_at lw_m1 54 rfl) rfl
theorem q607 : (Jvm.Cond.fieldLinkNest "RoseProverbs$Rose$Speakers$1" (27 : Nat) "RoseProverbs$Rose" "proverbs" "Ljava/util/List;" "RoseProverbs") ∈ lw_tbl := lw_at lw_m2 235 rfl
theorem q781 : (Jvm.Cond.selects "RoseProverbs$Rose$Speakers$1" ({ cls := "java/lang/Object", name := "getClass", desc := "()Ljava/lang/Class;" } : Jvm.MethodName) ({ cls := "java/lang/Object", name := "getClass", desc := "()Ljava/lang/Class;" } : Jvm.MethodName)) ∈ lw_all := lw_g (lw_at lw_m3 169 rfl) rfl
theorem q2231 : (Jvm.Cond.castable "RoseProverbs$Rose$Speakers$1" "java/util/Iterator") ∈ lw_tbl := lw_at lw_m9 179 rfl
theorem q2232 : (Jvm.Cond.selects "RoseProverbs$Rose$Speakers$1" ({ cls := "java/util/Iterator", name := "hasNext", desc := "()Z" } : Jvm.MethodName) ({ cls := "RoseProverbs$Rose$Speakers$1", name := "hasNext", desc := "()Z" } : Jvm.MethodName)) ∈ lw_all := lw_g (lw_at lw_m9 180 rfl) rfl
theorem q2233 : (Jvm.Cond.unhidden "RoseProverbs$Rose$Speakers$1" "hasNext" "()Z") ∈ lw_tbl := lw_at lw_m9 181 rfl
theorem q2234 : (Jvm.Cond.instanceMethod ({ cls := "RoseProverbs$Rose$Speakers$1", name := "hasNext", desc := "()Z" } : Jvm.MethodName)) ∈ lw_all := lw_g (lw_at lw_m9 182 rfl) rfl
theorem q2235 : (Jvm.Cond.publicMethod ({ cls := "RoseProverbs$Rose$Speakers$1", name := "hasNext", desc := "()Z" } : Jvm.MethodName)) ∈ lw_tbl := lw_at lw_m9 183 rfl
theorem q2236 : (Jvm.Cond.code ({ cls := "RoseProverbs$Rose$Speakers$1", name := "hasNext", desc := "()Z" } : Jvm.MethodName) prog_10_method_3_code (1 : Nat) (Option.some Jvm.ClassFile.FieldType.boolean)) ∈ lw_all := lw_g (lw_at lw_m9 184 rfl) rfl
theorem q2237 : (Jvm.Cond.interfaceEntry "RoseProverbs$Rose$Speakers$1" (33 : Nat)) ∈ lw_tbl := lw_at lw_m9 185 rfl
theorem q2238 : (Jvm.Cond.methodLink "RoseProverbs$Rose$Speakers$1" (33 : Nat) ({ cls := "java/util/List", name := "size", desc := "()I" } : Jvm.MethodName)) ∈ lw_all := lw_g (lw_at lw_m9 186 rfl) rfl
theorem q2274 : (Jvm.Cond.selects "RoseProverbs$Rose$Speakers$1" ({ cls := "java/util/Iterator", name := "next", desc := "()Ljava/lang/Object;" } : Jvm.MethodName) ({ cls := "RoseProverbs$Rose$Speakers$1", name := "next", desc := "()Ljava/lang/Object;" } : Jvm.MethodName)) ∈ lw_all := lw_g (lw_at lw_m9 222 rfl) rfl
theorem q2275 : (Jvm.Cond.unhidden "RoseProverbs$Rose$Speakers$1" "next" "()Ljava/lang/Object;") ∈ lw_tbl := lw_at lw_m9 223 rfl
theorem q2276 : (Jvm.Cond.instanceMethod ({ cls := "RoseProverbs$Rose$Speakers$1", name := "next", desc := "()Ljava/lang/Object;" } : Jvm.MethodName)) ∈ lw_all := lw_g (lw_at lw_m9 224 rfl) rfl
theorem q2277 : (Jvm.Cond.publicMethod ({ cls := "RoseProverbs$Rose$Speakers$1", name := "next", desc := "()Ljava/lang/Object;" } : Jvm.MethodName)) ∈ lw_tbl := lw_at lw_m9 225 rfl
theorem q2278 : (Jvm.Cond.code ({ cls := "RoseProverbs$Rose$Speakers$1", name := "next", desc := "()Ljava/lang/Object;" } : Jvm.MethodName) prog_10_method_5_code (1 : Nat) (Option.some (Jvm.ClassFile.FieldType.object "java/lang/Object"))) ∈ lw_all := lw_g (lw_at lw_m9 226 rfl) rfl
theorem q2279 : (Jvm.Cond.methodLink "RoseProverbs$Rose$Speakers$1" (65 : Nat) ({ cls := "RoseProverbs$Rose$Speakers$1", name := "next", desc := "()LRoseProverbs$Proverb;" } : Jvm.MethodName)) ∈ lw_all := lw_g (lw_at lw_m9 227 rfl) rfl
theorem q2280 : (Jvm.Cond.instanceMethod ({ cls := "RoseProverbs$Rose$Speakers$1", name := "next", desc := "()LRoseProverbs$Proverb;" } : Jvm.MethodName)) ∈ lw_all := lw_g (lw_at lw_m9 228 rfl) rfl
theorem q2281 : (Jvm.Cond.selects "RoseProverbs$Rose$Speakers$1" ({ cls := "RoseProverbs$Rose$Speakers$1", name := "next", desc := "()LRoseProverbs$Proverb;" } : Jvm.MethodName) ({ cls := "RoseProverbs$Rose$Speakers$1", name := "next", desc := "()LRoseProverbs$Proverb;" } : Jvm.MethodName)) ∈ lw_all := lw_g (lw_at lw_m9 229 rfl) rfl
theorem q2282 : (Jvm.Cond.code ({ cls := "RoseProverbs$Rose$Speakers$1", name := "next", desc := "()LRoseProverbs$Proverb;" } : Jvm.MethodName) prog_10_method_4_code (2 : Nat) (Option.some (Jvm.ClassFile.FieldType.object "RoseProverbs$Proverb"))) ∈ lw_all := lw_g (lw_at lw_m9 230 rfl) rfl
theorem q2283 : (Jvm.Cond.methodLink "RoseProverbs$Rose$Speakers$1" (55 : Nat) ({ cls := "RoseProverbs$Rose$Speakers$1", name := "hasNext", desc := "()Z" } : Jvm.MethodName)) ∈ lw_all := lw_g (lw_at lw_m9 231 rfl) rfl
theorem q2284 : (Jvm.Cond.methodLinkNest "RoseProverbs$Rose$Speakers$1" (59 : Nat) ({ cls := "RoseProverbs", name := "checkElement", desc := "(Z)V" } : Jvm.MethodName) "RoseProverbs") ∈ lw_tbl := lw_at lw_m9 232 rfl
theorem q2289 : (Jvm.Cond.methodLink "RoseProverbs$Rose$Speakers$1" (39 : Nat) ({ cls := "RoseProverbs$Rose", name := "proverb", desc := "(I)LRoseProverbs$Proverb;" } : Jvm.MethodName)) ∈ lw_all := lw_g (lw_at lw_m9 237 rfl) rfl
theorem q2290 : (Jvm.Cond.methodLink "RoseProverbs$Rose$Speakers$1" (13 : Nat) ({ cls := "RoseProverbs$Rose$Speakers$1", name := "from", desc := "(I)I" } : Jvm.MethodName)) ∈ lw_all := lw_g (lw_at lw_m9 238 rfl) rfl
theorem q2291 : (Jvm.Cond.privateMethod ({ cls := "RoseProverbs$Rose$Speakers$1", name := "from", desc := "(I)I" } : Jvm.MethodName)) ∈ lw_tbl := lw_at lw_m9 239 rfl
theorem q2292 : (Jvm.Cond.instanceMethod ({ cls := "RoseProverbs$Rose$Speakers$1", name := "from", desc := "(I)I" } : Jvm.MethodName)) ∈ lw_all := lw_g (lw_at lw_m10 0 rfl) rfl
theorem q2293 : (Jvm.Cond.instantiable "RoseProverbs$Rose$Speakers$1" (2 : Nat)) ∈ lw_all := lw_g (lw_at lw_m10 1 rfl) rfl
theorem q2294 : (Jvm.Cond.code ({ cls := "RoseProverbs$Rose$Speakers$1", name := "from", desc := "(I)I" } : Jvm.MethodName) prog_10_method_2_code (3 : Nat) (Option.some Jvm.ClassFile.FieldType.int)) ∈ lw_all := lw_g (lw_at lw_m10 2 rfl) rfl
theorem q2295 : (Jvm.Cond.methodLink "RoseProverbs$Rose$Speakers$1" (49 : Nat) ({ cls := "RoseProverbs$Proverb", name := "speaks", desc := "(II)Z" } : Jvm.MethodName)) ∈ lw_all := lw_g (lw_at lw_m10 3 rfl) rfl
theorem q2634 : (Jvm.Cond.fieldLinkNest "RoseProverbs$Rose$Speakers$1" (43 : Nat) "RoseProverbs$Rose$Speakers" "point" "I" "RoseProverbs") ∈ lw_tbl := lw_at lw_m11 102 rfl
theorem q2636 : (Jvm.Cond.fieldLinkNest "RoseProverbs$Rose$Speakers$1" (46 : Nat) "RoseProverbs$Rose$Speakers" "month" "I" "RoseProverbs") ∈ lw_tbl := lw_at lw_m11 104 rfl
theorem q2638 : (Jvm.Cond.fieldLink "RoseProverbs$Rose$Speakers$1" (21 : Nat) "RoseProverbs$Rose$Speakers" "this$0" "LRoseProverbs$Rose;") ∈ lw_all := lw_g (lw_at lw_m11 106 rfl) rfl
theorem q2652 : (Jvm.Cond.instanceMethod ({ cls := "RoseProverbs$Rose$Speakers$1", name := "<init>", desc := "(LRoseProverbs$Rose$Speakers;)V" } : Jvm.MethodName)) ∈ lw_all := lw_g (lw_at lw_m11 120 rfl) rfl
theorem q2653 : (Jvm.Cond.code ({ cls := "RoseProverbs$Rose$Speakers$1", name := "<init>", desc := "(LRoseProverbs$Rose$Speakers;)V" } : Jvm.MethodName) prog_10_method_1_code (2 : Nat) (Option.none : Option Jvm.ClassFile.FieldType)) ∈ lw_all := lw_g (lw_at lw_m11 121 rfl) rfl
theorem q2654 : (Jvm.Cond.methodLink "RoseProverbs$Rose$Speakers$1" (7 : Nat) ({ cls := "java/lang/Object", name := "<init>", desc := "()V" } : Jvm.MethodName)) ∈ lw_all := lw_g (lw_at lw_m11 122 rfl) rfl
theorem q2655 : (Jvm.Cond.fieldLink "RoseProverbs$Rose$Speakers$1" (17 : Nat) "RoseProverbs$Rose$Speakers$1" "next" "I") ∈ lw_all := lw_g (lw_at lw_m11 123 rfl) rfl
theorem q2656 : (Jvm.Cond.fieldLink "RoseProverbs$Rose$Speakers$1" (1 : Nat) "RoseProverbs$Rose$Speakers$1" "this$1" "LRoseProverbs$Rose$Speakers;") ∈ lw_all := lw_g (lw_at lw_m11 124 rfl) rfl
theorem q2657 : (Jvm.Cond.lays "RoseProverbs$Rose$Speakers$1" "RoseProverbs$Rose$Speakers$1" "next" "I") ∈ lw_all := lw_g (lw_at lw_m11 125 rfl) rfl
theorem q2658 : (Jvm.Cond.soleField "RoseProverbs$Rose$Speakers$1" "next") ∈ lw_all := lw_g (lw_at lw_m11 126 rfl) rfl
theorem q2659 : (Jvm.Cond.laysFinal "RoseProverbs$Rose$Speakers$1" "RoseProverbs$Rose$Speakers$1" "this$1" "LRoseProverbs$Rose$Speakers;") ∈ lw_all := lw_g (lw_at lw_m11 127 rfl) rfl
theorem q2660 : (Jvm.Cond.soleField "RoseProverbs$Rose$Speakers$1" "this$1") ∈ lw_all := lw_g (lw_at lw_m11 128 rfl) rfl
theorem q2661 : (Jvm.Cond.superclass "RoseProverbs$Rose$Speakers$1" "java/lang/Object") ∈ lw_all := lw_g (lw_at lw_m11 129 rfl) rfl
theorem q3576 : (Jvm.Cond.selects "RoseProverbs$Rose$Speakers$1" ({ cls := "RoseProverbs$Rose$Speakers$1", name := "hasNext", desc := "()Z" } : Jvm.MethodName) ({ cls := "RoseProverbs$Rose$Speakers$1", name := "hasNext", desc := "()Z" } : Jvm.MethodName)) ∈ lw_all := lw_g (lw_at lw_m15 84 rfl) rfl
theorem q3621 : (Jvm.Cond.castable "RoseProverbs$Rose$Speakers$1" "java/lang/Object") ∈ lw_tbl := lw_at lw_m15 129 rfl
theorem in_X17 : ∀ w ∈ wsX170, w ∈ lw_all := lw_in wsX170 [2657, 2659] (by decide +kernel) (by decide +kernel)
/-! RoseProverbs$Heavier -/
set_option maxRecDepth 100000
def RX18 : String := "RoseProverbs$Heavier"
abbrev cX18_compare : ByteArray := prog_3_method_3_code
def yX18_compare : MethodName := ⟨RX18, "compare", "(Ljava/lang/Object;Ljava/lang/Object;)I"⟩
def dkwX18_compare_0 : List UInt8 := [42, 43, 192, 0, 8, 44, 192, 0, 8, 182, 0, 16, 172]
abbrev dktX18_compare_0 : List UInt8 := dkwX18_compare_0 ++ []
theorem dksX18_compare_0 : cX18_compare.data.toList.drop 0 = dktX18_compare_0 := by decide +kernel
theorem dX18_compare_0 : decode cX18_compare 0 = .ok (.aload_n 0, 1) := dk_42 (dk_at dksX18_compare_0 0 rfl rfl)
theorem dX18_compare_1 : decode cX18_compare 1 = .ok (.aload_n 1, 1) := dk_43 (dk_at dksX18_compare_0 1 rfl rfl)
theorem dX18_compare_2 : decode cX18_compare 2 = .ok (.checkcast 8, 3) := dk_192 0 8 (dk_at dksX18_compare_0 2 rfl rfl)
theorem dX18_compare_5 : decode cX18_compare 5 = .ok (.aload_n 2, 1) := dk_44 (dk_at dksX18_compare_0 5 rfl rfl)
theorem dX18_compare_6 : decode cX18_compare 6 = .ok (.checkcast 8, 3) := dk_192 0 8 (dk_at dksX18_compare_0 6 rfl rfl)
theorem dX18_compare_9 : decode cX18_compare 9 = .ok (.invokevirtual 16, 3) := dk_182 0 16 (dk_at dksX18_compare_0 9 rfl rfl)
theorem dX18_compare_12 : decode cX18_compare 12 = .ok (.ireturn, 1) := dk_172 (dk_at dksX18_compare_0 12 rfl rfl)
abbrev cX18_compare_2 : ByteArray := prog_3_method_2_code
def yX18_compare_2 : MethodName := ⟨RX18, "compare", "(LRoseProverbs$Proverb;LRoseProverbs$Proverb;)I"⟩
def dkwX18_compare_2_1 : List UInt8 := [180, 0, 13, 44, 180, 0, 13, 100, 172]
abbrev dktX18_compare_2_1 : List UInt8 := dkwX18_compare_2_1 ++ []
def dkwX18_compare_2_0 : List UInt8 := [43, 180, 0, 7, 44, 180, 0, 7, 159, 0, 15, 44, 180, 0, 7, 43, 180, 0, 7, 100, 167, 0, 12, 43]
abbrev dktX18_compare_2_0 : List UInt8 := dkwX18_compare_2_0 ++ dktX18_compare_2_1
theorem dksX18_compare_2_0 : cX18_compare_2.data.toList.drop 0 = dktX18_compare_2_0 := by decide +kernel
theorem dksX18_compare_2_1 : cX18_compare_2.data.toList.drop 24 = dktX18_compare_2_1 := dk_seg dksX18_compare_2_0 24 rfl rfl
theorem dX18_compare_2_0 : decode cX18_compare_2 0 = .ok (.aload_n 1, 1) := dk_43 (dk_at dksX18_compare_2_0 0 rfl rfl)
theorem dX18_compare_2_1 : decode cX18_compare_2 1 = .ok (.getfield 7, 3) := dk_180 0 7 (dk_at dksX18_compare_2_0 1 rfl rfl)
theorem dX18_compare_2_4 : decode cX18_compare_2 4 = .ok (.aload_n 2, 1) := dk_44 (dk_at dksX18_compare_2_0 4 rfl rfl)
theorem dX18_compare_2_5 : decode cX18_compare_2 5 = .ok (.getfield 7, 3) := dk_180 0 7 (dk_at dksX18_compare_2_0 5 rfl rfl)
theorem dX18_compare_2_8 : decode cX18_compare_2 8 = .ok (.if_icmp .eq 15, 3) := dk_159 0 15 (dk_at dksX18_compare_2_0 8 rfl rfl)
theorem dX18_compare_2_11 : decode cX18_compare_2 11 = .ok (.aload_n 2, 1) := dk_44 (dk_at dksX18_compare_2_0 11 rfl rfl)
theorem dX18_compare_2_12 : decode cX18_compare_2 12 = .ok (.getfield 7, 3) := dk_180 0 7 (dk_at dksX18_compare_2_0 12 rfl rfl)
theorem dX18_compare_2_15 : decode cX18_compare_2 15 = .ok (.aload_n 1, 1) := dk_43 (dk_at dksX18_compare_2_0 15 rfl rfl)
theorem dX18_compare_2_16 : decode cX18_compare_2 16 = .ok (.getfield 7, 3) := dk_180 0 7 (dk_at dksX18_compare_2_0 16 rfl rfl)
theorem dX18_compare_2_19 : decode cX18_compare_2 19 = .ok (.isub, 1) := dk_100 (dk_at dksX18_compare_2_0 19 rfl rfl)
theorem dX18_compare_2_20 : decode cX18_compare_2 20 = .ok (.goto 12, 3) := dk_167 0 12 (dk_at dksX18_compare_2_0 20 rfl rfl)
theorem dX18_compare_2_23 : decode cX18_compare_2 23 = .ok (.aload_n 1, 1) := dk_43 (dk_at dksX18_compare_2_0 23 rfl rfl)
theorem dX18_compare_2_24 : decode cX18_compare_2 24 = .ok (.getfield 13, 3) := dk_180 0 13 (dk_at dksX18_compare_2_1 0 rfl rfl)
theorem dX18_compare_2_27 : decode cX18_compare_2 27 = .ok (.aload_n 2, 1) := dk_44 (dk_at dksX18_compare_2_1 3 rfl rfl)
theorem dX18_compare_2_28 : decode cX18_compare_2 28 = .ok (.getfield 13, 3) := dk_180 0 13 (dk_at dksX18_compare_2_1 4 rfl rfl)
theorem dX18_compare_2_31 : decode cX18_compare_2 31 = .ok (.isub, 1) := dk_100 (dk_at dksX18_compare_2_1 7 rfl rfl)
theorem dX18_compare_2_32 : decode cX18_compare_2 32 = .ok (.ireturn, 1) := dk_172 (dk_at dksX18_compare_2_1 8 rfl rfl)
abbrev cX18_init : ByteArray := prog_3_method_1_code
def yX18_init : MethodName := ⟨RX18, "<init>", "()V"⟩
theorem dX18_init_0 : decode cX18_init 0 = .ok (.aload_n 0, 1) := by decide +kernel
theorem dX18_init_1 : decode cX18_init 1 = .ok (.invokespecial 1, 3) := by decide +kernel
theorem dX18_init_4 : decode cX18_init 4 = .ok (.return_, 1) := by decide +kernel
theorem q189 : (Jvm.Cond.initialized "RoseProverbs$Heavier") ∈ lw_all := lw_g (lw_at lw_m1 57 rfl) rfl
theorem q689 : (Jvm.Cond.fieldLinkNest "RoseProverbs$Heavier" (13 : Nat) "RoseProverbs$Proverb" "number" "I" "RoseProverbs") ∈ lw_tbl := lw_at lw_m3 77 rfl
theorem q707 : (Jvm.Cond.fieldLinkNest "RoseProverbs$Heavier" (7 : Nat) "RoseProverbs$Proverb" "weight" "I" "RoseProverbs") ∈ lw_tbl := lw_at lw_m3 95 rfl
theorem q776 : (Jvm.Cond.selects "RoseProverbs$Heavier" ({ cls := "java/lang/Object", name := "getClass", desc := "()Ljava/lang/Class;" } : Jvm.MethodName) ({ cls := "java/lang/Object", name := "getClass", desc := "()Ljava/lang/Class;" } : Jvm.MethodName)) ∈ lw_all := lw_g (lw_at lw_m3 164 rfl) rfl
theorem q1064 : (Jvm.Cond.castable "RoseProverbs$Heavier" "java/util/Comparator") ∈ lw_tbl := lw_at lw_m4 212 rfl
theorem q1065 : (Jvm.Cond.selects "RoseProverbs$Heavier" ({ cls := "java/util/Comparator", name := "compare", desc := "(Ljava/lang/Object;Ljava/lang/Object;)I" } : Jvm.MethodName) ({ cls := "RoseProverbs$Heavier", name := "compare", desc := "(Ljava/lang/Object;Ljava/lang/Object;)I" } : Jvm.MethodName)) ∈ lw_all := lw_g (lw_at lw_m4 213 rfl) rfl
theorem q1066 : (Jvm.Cond.unhidden "RoseProverbs$Heavier" "compare" "(Ljava/lang/Object;Ljava/lang/Object;)I") ∈ lw_tbl := lw_at lw_m4 214 rfl
theorem q1067 : (Jvm.Cond.instanceMethod ({ cls := "RoseProverbs$Heavier", name := "compare", desc := "(Ljava/lang/Object;Ljava/lang/Object;)I" } : Jvm.MethodName)) ∈ lw_all := lw_g (lw_at lw_m4 215 rfl) rfl
theorem q1068 : (Jvm.Cond.publicMethod ({ cls := "RoseProverbs$Heavier", name := "compare", desc := "(Ljava/lang/Object;Ljava/lang/Object;)I" } : Jvm.MethodName)) ∈ lw_tbl := lw_at lw_m4 216 rfl
theorem q1069 : (Jvm.Cond.code ({ cls := "RoseProverbs$Heavier", name := "compare", desc := "(Ljava/lang/Object;Ljava/lang/Object;)I" } : Jvm.MethodName) prog_3_method_3_code (3 : Nat) (Option.some Jvm.ClassFile.FieldType.int)) ∈ lw_all := lw_g (lw_at lw_m4 217 rfl) rfl
theorem q1070 : (Jvm.Cond.classLink "RoseProverbs$Heavier" (8 : Nat) "RoseProverbs$Proverb") ∈ lw_all := lw_g (lw_at lw_m4 218 rfl) rfl
theorem q1071 : (Jvm.Cond.methodLink "RoseProverbs$Heavier" (16 : Nat) ({ cls := "RoseProverbs$Heavier", name := "compare", desc := "(LRoseProverbs$Proverb;LRoseProverbs$Proverb;)I" } : Jvm.MethodName)) ∈ lw_all := lw_g (lw_at lw_m4 219 rfl) rfl
theorem q1072 : (Jvm.Cond.instanceMethod ({ cls := "RoseProverbs$Heavier", name := "compare", desc := "(LRoseProverbs$Proverb;LRoseProverbs$Proverb;)I" } : Jvm.MethodName)) ∈ lw_all := lw_g (lw_at lw_m4 220 rfl) rfl
theorem q1073 : (Jvm.Cond.selects "RoseProverbs$Heavier" ({ cls := "RoseProverbs$Heavier", name := "compare", desc := "(LRoseProverbs$Proverb;LRoseProverbs$Proverb;)I" } : Jvm.MethodName) ({ cls := "RoseProverbs$Heavier", name := "compare", desc := "(LRoseProverbs$Proverb;LRoseProverbs$Proverb;)I" } : Jvm.MethodName)) ∈ lw_all := lw_g (lw_at lw_m4 221 rfl) rfl
theorem q1074 : (Jvm.Cond.code ({ cls := "RoseProverbs$Heavier", name := "compare", desc := "(LRoseProverbs$Proverb;LRoseProverbs$Proverb;)I" } : Jvm.MethodName) prog_3_method_2_code (3 : Nat) (Option.some Jvm.ClassFile.FieldType.int)) ∈ lw_all := lw_g (lw_at lw_m4 222 rfl) rfl
theorem q2039 : (Jvm.Cond.instantiable "RoseProverbs$Heavier" (0 : Nat)) ∈ lw_all := lw_g (lw_at lw_m8 227 rfl) rfl
theorem q2041 : (Jvm.Cond.instanceMethod ({ cls := "RoseProverbs$Heavier", name := "<init>", desc := "()V" } : Jvm.MethodName)) ∈ lw_all := lw_g (lw_at lw_m8 229 rfl) rfl
theorem q2042 : (Jvm.Cond.code ({ cls := "RoseProverbs$Heavier", name := "<init>", desc := "()V" } : Jvm.MethodName) prog_3_method_1_code (1 : Nat) (Option.none : Option Jvm.ClassFile.FieldType)) ∈ lw_all := lw_g (lw_at lw_m8 230 rfl) rfl
theorem q2043 : (Jvm.Cond.methodLink "RoseProverbs$Heavier" (1 : Nat) ({ cls := "java/lang/Object", name := "<init>", desc := "()V" } : Jvm.MethodName)) ∈ lw_all := lw_g (lw_at lw_m8 231 rfl) rfl
theorem q2044 : (Jvm.Cond.superclass "RoseProverbs$Heavier" "java/lang/Object") ∈ lw_all := lw_g (lw_at lw_m8 232 rfl) rfl
theorem q3623 : (Jvm.Cond.castable "RoseProverbs$Heavier" "java/lang/Object") ∈ lw_tbl := lw_at lw_m15 131 rfl
/-! RoseProverbs$Round -/
set_option maxRecDepth 100000
def RX19 : String := "RoseProverbs$Round"
abbrev cX19_size : ByteArray := prog_11_method_2_code
def yX19_size : MethodName := ⟨RX19, "size", "()I"⟩
theorem dX19_size_0 : decode cX19_size 0 = .ok (.aload_n 0, 1) := by decide +kernel
theorem dX19_size_1 : decode cX19_size 1 = .ok (.getfield 7, 3) := by decide +kernel
theorem dX19_size_4 : decode cX19_size 4 = .ok (.ireturn, 1) := by decide +kernel
theorem q782 : (Jvm.Cond.selects "RoseProverbs$Round" ({ cls := "java/lang/Object", name := "getClass", desc := "()Ljava/lang/Class;" } : Jvm.MethodName) ({ cls := "java/lang/Object", name := "getClass", desc := "()Ljava/lang/Class;" } : Jvm.MethodName)) ∈ lw_all := lw_g (lw_at lw_m3 170 rfl) rfl
theorem q1912 : (Jvm.Cond.superclass "RoseProverbs$Round" "java/lang/Object") ∈ lw_all := lw_g (lw_at lw_m8 100 rfl) rfl
theorem q1914 : (Jvm.Cond.unhidden "RoseProverbs$Round" "isBetween" "(III)Z") ∈ lw_tbl := lw_at lw_m8 102 rfl
theorem q1922 : (Jvm.Cond.castable "RoseProverbs$Round" "RoseProverbs$Ring") ∈ lw_tbl := lw_at lw_m8 110 rfl
theorem q1923 : (Jvm.Cond.unhidden "RoseProverbs$Round" "steps" "(II)I") ∈ lw_tbl := lw_at lw_m8 111 rfl
theorem q1931 : (Jvm.Cond.selects "RoseProverbs$Round" ({ cls := "RoseProverbs$Ring", name := "size", desc := "()I" } : Jvm.MethodName) ({ cls := "RoseProverbs$Round", name := "size", desc := "()I" } : Jvm.MethodName)) ∈ lw_all := lw_g (lw_at lw_m8 119 rfl) rfl
theorem q1932 : (Jvm.Cond.unhidden "RoseProverbs$Round" "size" "()I") ∈ lw_tbl := lw_at lw_m8 120 rfl
theorem q1933 : (Jvm.Cond.instanceMethod ({ cls := "RoseProverbs$Round", name := "size", desc := "()I" } : Jvm.MethodName)) ∈ lw_all := lw_g (lw_at lw_m8 121 rfl) rfl
theorem q1934 : (Jvm.Cond.publicMethod ({ cls := "RoseProverbs$Round", name := "size", desc := "()I" } : Jvm.MethodName)) ∈ lw_tbl := lw_at lw_m8 122 rfl
theorem q1935 : (Jvm.Cond.code ({ cls := "RoseProverbs$Round", name := "size", desc := "()I" } : Jvm.MethodName) prog_11_method_2_code (1 : Nat) (Option.some Jvm.ClassFile.FieldType.int)) ∈ lw_all := lw_g (lw_at lw_m8 123 rfl) rfl
theorem q3581 : (Jvm.Cond.initialized "RoseProverbs$Round") ∈ lw_all := lw_g (lw_at lw_m15 89 rfl) rfl
theorem q3616 : (Jvm.Cond.castable "RoseProverbs$Round" "java/lang/Object") ∈ lw_tbl := lw_at lw_m15 124 rfl
theorem q3643 : (Jvm.Cond.fieldLink "RoseProverbs$Round" (7 : Nat) "RoseProverbs$Round" "size" "I") ∈ lw_all := lw_g (lw_at lw_m15 151 rfl) rfl
