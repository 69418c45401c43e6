/-! RoseProverbsLaw -/
set_option maxRecDepth 100000
def RX0 : String := "RoseProverbsLaw"
abbrev cX0_count : ByteArray := method_3_code
def yX0_count : MethodName := ⟨RX0, "count", "(LRoseProverbs;I[J)I"⟩
def dkwX0_count_0 : List UInt8 := [44, 3, 42, 27, 182, 0, 7, 133, 80, 167, 0, 6, 78, 4, 172, 3, 172]
abbrev dktX0_count_0 : List UInt8 := dkwX0_count_0 ++ []
theorem dksX0_count_0 : cX0_count.data.toList.drop 0 = dktX0_count_0 := by decide +kernel
theorem dX0_count_0 : decode cX0_count 0 = .ok (.aload_n 2, 1) := dk_44 (dk_at dksX0_count_0 0 rfl rfl)
theorem dX0_count_1 : decode cX0_count 1 = .ok (.iconst 0, 1) := dk_3 (dk_at dksX0_count_0 1 rfl rfl)
theorem dX0_count_2 : decode cX0_count 2 = .ok (.aload_n 0, 1) := dk_42 (dk_at dksX0_count_0 2 rfl rfl)
theorem dX0_count_3 : decode cX0_count 3 = .ok (.iload_n 1, 1) := dk_27 (dk_at dksX0_count_0 3 rfl rfl)
theorem dX0_count_4 : decode cX0_count 4 = .ok (.invokevirtual 7, 3) := dk_182 0 7 (dk_at dksX0_count_0 4 rfl rfl)
theorem dX0_count_7 : decode cX0_count 7 = .ok (.i2l, 1) := dk_133 (dk_at dksX0_count_0 7 rfl rfl)
theorem dX0_count_8 : decode cX0_count 8 = .ok (.lastore, 1) := dk_80 (dk_at dksX0_count_0 8 rfl rfl)
theorem dX0_count_9 : decode cX0_count 9 = .ok (.goto 6, 3) := dk_167 0 6 (dk_at dksX0_count_0 9 rfl rfl)
theorem dX0_count_12 : decode cX0_count 12 = .ok (.astore_n 3, 1) := dk_78 (dk_at dksX0_count_0 12 rfl rfl)
theorem dX0_count_13 : decode cX0_count 13 = .ok (.iconst 1, 1) := dk_4 (dk_at dksX0_count_0 13 rfl rfl)
theorem dX0_count_14 : decode cX0_count 14 = .ok (.ireturn, 1) := dk_172 (dk_at dksX0_count_0 14 rfl rfl)
theorem dX0_count_15 : decode cX0_count 15 = .ok (.iconst 0, 1) := dk_3 (dk_at dksX0_count_0 15 rfl rfl)
theorem dX0_count_16 : decode cX0_count 16 = .ok (.ireturn, 1) := dk_172 (dk_at dksX0_count_0 16 rfl rfl)
abbrev cX0_account : ByteArray := method_4_code
def yX0_account : MethodName := ⟨RX0, "account", "(LRoseProverbs;I[J)I"⟩
def dkwX0_account_0 : List UInt8 := [44, 3, 42, 27, 182, 0, 15, 133, 80, 167, 0, 6, 78, 4, 172, 3, 172]
abbrev dktX0_account_0 : List UInt8 := dkwX0_account_0 ++ []
theorem dksX0_account_0 : cX0_account.data.toList.drop 0 = dktX0_account_0 := by decide +kernel
theorem dX0_account_0 : decode cX0_account 0 = .ok (.aload_n 2, 1) := dk_44 (dk_at dksX0_account_0 0 rfl rfl)
theorem dX0_account_1 : decode cX0_account 1 = .ok (.iconst 0, 1) := dk_3 (dk_at dksX0_account_0 1 rfl rfl)
theorem dX0_account_2 : decode cX0_account 2 = .ok (.aload_n 0, 1) := dk_42 (dk_at dksX0_account_0 2 rfl rfl)
theorem dX0_account_3 : decode cX0_account 3 = .ok (.iload_n 1, 1) := dk_27 (dk_at dksX0_account_0 3 rfl rfl)
theorem dX0_account_4 : decode cX0_account 4 = .ok (.invokevirtual 15, 3) := dk_182 0 15 (dk_at dksX0_account_0 4 rfl rfl)
theorem dX0_account_7 : decode cX0_account 7 = .ok (.i2l, 1) := dk_133 (dk_at dksX0_account_0 7 rfl rfl)
theorem dX0_account_8 : decode cX0_account 8 = .ok (.lastore, 1) := dk_80 (dk_at dksX0_account_0 8 rfl rfl)
theorem dX0_account_9 : decode cX0_account 9 = .ok (.goto 6, 3) := dk_167 0 6 (dk_at dksX0_account_0 9 rfl rfl)
theorem dX0_account_12 : decode cX0_account 12 = .ok (.astore_n 3, 1) := dk_78 (dk_at dksX0_account_0 12 rfl rfl)
theorem dX0_account_13 : decode cX0_account 13 = .ok (.iconst 1, 1) := dk_4 (dk_at dksX0_account_0 13 rfl rfl)
theorem dX0_account_14 : decode cX0_account 14 = .ok (.ireturn, 1) := dk_172 (dk_at dksX0_account_0 14 rfl rfl)
theorem dX0_account_15 : decode cX0_account 15 = .ok (.iconst 0, 1) := dk_3 (dk_at dksX0_account_0 15 rfl rfl)
theorem dX0_account_16 : decode cX0_account 16 = .ok (.ireturn, 1) := dk_172 (dk_at dksX0_account_0 16 rfl rfl)
abbrev cX0_proverb : ByteArray := method_5_code
def yX0_proverb : MethodName := ⟨RX0, "proverb", "(LRoseProverbs;II[J)I"⟩
def dkwX0_proverb_0 : List UInt8 := [45, 3, 42, 27, 28, 182, 0, 18, 133, 80, 167, 0, 11, 58, 4, 4, 172, 58, 4, 5, 172, 3, 172]
abbrev dktX0_proverb_0 : List UInt8 := dkwX0_proverb_0 ++ []
theorem dksX0_proverb_0 : cX0_proverb.data.toList.drop 0 = dktX0_proverb_0 := by decide +kernel
theorem dX0_proverb_0 : decode cX0_proverb 0 = .ok (.aload_n 3, 1) := dk_45 (dk_at dksX0_proverb_0 0 rfl rfl)
theorem dX0_proverb_1 : decode cX0_proverb 1 = .ok (.iconst 0, 1) := dk_3 (dk_at dksX0_proverb_0 1 rfl rfl)
theorem dX0_proverb_2 : decode cX0_proverb 2 = .ok (.aload_n 0, 1) := dk_42 (dk_at dksX0_proverb_0 2 rfl rfl)
theorem dX0_proverb_3 : decode cX0_proverb 3 = .ok (.iload_n 1, 1) := dk_27 (dk_at dksX0_proverb_0 3 rfl rfl)
theorem dX0_proverb_4 : decode cX0_proverb 4 = .ok (.iload_n 2, 1) := dk_28 (dk_at dksX0_proverb_0 4 rfl rfl)
theorem dX0_proverb_5 : decode cX0_proverb 5 = .ok (.invokevirtual 18, 3) := dk_182 0 18 (dk_at dksX0_proverb_0 5 rfl rfl)
theorem dX0_proverb_8 : decode cX0_proverb 8 = .ok (.i2l, 1) := dk_133 (dk_at dksX0_proverb_0 8 rfl rfl)
theorem dX0_proverb_9 : decode cX0_proverb 9 = .ok (.lastore, 1) := dk_80 (dk_at dksX0_proverb_0 9 rfl rfl)
theorem dX0_proverb_10 : decode cX0_proverb 10 = .ok (.goto 11, 3) := dk_167 0 11 (dk_at dksX0_proverb_0 10 rfl rfl)
theorem dX0_proverb_13 : decode cX0_proverb 13 = .ok (.astore 4, 2) := dk_58 4 (dk_at dksX0_proverb_0 13 rfl rfl)
theorem dX0_proverb_15 : decode cX0_proverb 15 = .ok (.iconst 1, 1) := dk_4 (dk_at dksX0_proverb_0 15 rfl rfl)
theorem dX0_proverb_16 : decode cX0_proverb 16 = .ok (.ireturn, 1) := dk_172 (dk_at dksX0_proverb_0 16 rfl rfl)
theorem dX0_proverb_17 : decode cX0_proverb 17 = .ok (.astore 4, 2) := dk_58 4 (dk_at dksX0_proverb_0 17 rfl rfl)
theorem dX0_proverb_19 : decode cX0_proverb 19 = .ok (.iconst 2, 1) := dk_5 (dk_at dksX0_proverb_0 19 rfl rfl)
theorem dX0_proverb_20 : decode cX0_proverb 20 = .ok (.ireturn, 1) := dk_172 (dk_at dksX0_proverb_0 20 rfl rfl)
theorem dX0_proverb_21 : decode cX0_proverb 21 = .ok (.iconst 0, 1) := dk_3 (dk_at dksX0_proverb_0 21 rfl rfl)
theorem dX0_proverb_22 : decode cX0_proverb 22 = .ok (.ireturn, 1) := dk_172 (dk_at dksX0_proverb_0 22 rfl rfl)
abbrev cX0_speaks : ByteArray := method_6_code
def yX0_speaks : MethodName := ⟨RX0, "speaks", "(LRoseProverbs;III[J)I"⟩
def dkwX0_speaks_1 : List UInt8 := [4, 172, 3, 172]
abbrev dktX0_speaks_1 : List UInt8 := dkwX0_speaks_1 ++ []
def dkwX0_speaks_0 : List UInt8 := [25, 4, 3, 42, 27, 28, 29, 182, 0, 24, 153, 0, 7, 10, 167, 0, 4, 9, 80, 167, 0, 7, 58, 5]
abbrev dktX0_speaks_0 : List UInt8 := dkwX0_speaks_0 ++ dktX0_speaks_1
theorem dksX0_speaks_0 : cX0_speaks.data.toList.drop 0 = dktX0_speaks_0 := by decide +kernel
theorem dksX0_speaks_1 : cX0_speaks.data.toList.drop 24 = dktX0_speaks_1 := dk_seg dksX0_speaks_0 24 rfl rfl
theorem dX0_speaks_0 : decode cX0_speaks 0 = .ok (.aload 4, 2) := dk_25 4 (dk_at dksX0_speaks_0 0 rfl rfl)
theorem dX0_speaks_2 : decode cX0_speaks 2 = .ok (.iconst 0, 1) := dk_3 (dk_at dksX0_speaks_0 2 rfl rfl)
theorem dX0_speaks_3 : decode cX0_speaks 3 = .ok (.aload_n 0, 1) := dk_42 (dk_at dksX0_speaks_0 3 rfl rfl)
theorem dX0_speaks_4 : decode cX0_speaks 4 = .ok (.iload_n 1, 1) := dk_27 (dk_at dksX0_speaks_0 4 rfl rfl)
theorem dX0_speaks_5 : decode cX0_speaks 5 = .ok (.iload_n 2, 1) := dk_28 (dk_at dksX0_speaks_0 5 rfl rfl)
theorem dX0_speaks_6 : decode cX0_speaks 6 = .ok (.iload_n 3, 1) := dk_29 (dk_at dksX0_speaks_0 6 rfl rfl)
theorem dX0_speaks_7 : decode cX0_speaks 7 = .ok (.invokevirtual 24, 3) := dk_182 0 24 (dk_at dksX0_speaks_0 7 rfl rfl)
theorem dX0_speaks_10 : decode cX0_speaks 10 = .ok (.ifCond .eq 7, 3) := dk_153 0 7 (dk_at dksX0_speaks_0 10 rfl rfl)
theorem dX0_speaks_13 : decode cX0_speaks 13 = .ok (.lconst 1, 1) := dk_10 (dk_at dksX0_speaks_0 13 rfl rfl)
theorem dX0_speaks_14 : decode cX0_speaks 14 = .ok (.goto 4, 3) := dk_167 0 4 (dk_at dksX0_speaks_0 14 rfl rfl)
theorem dX0_speaks_17 : decode cX0_speaks 17 = .ok (.lconst 0, 1) := dk_9 (dk_at dksX0_speaks_0 17 rfl rfl)
theorem dX0_speaks_18 : decode cX0_speaks 18 = .ok (.lastore, 1) := dk_80 (dk_at dksX0_speaks_0 18 rfl rfl)
theorem dX0_speaks_19 : decode cX0_speaks 19 = .ok (.goto 7, 3) := dk_167 0 7 (dk_at dksX0_speaks_0 19 rfl rfl)
theorem dX0_speaks_22 : decode cX0_speaks 22 = .ok (.astore 5, 2) := dk_58 5 (dk_at dksX0_speaks_0 22 rfl rfl)
theorem dX0_speaks_24 : decode cX0_speaks 24 = .ok (.iconst 1, 1) := dk_4 (dk_at dksX0_speaks_1 0 rfl rfl)
theorem dX0_speaks_25 : decode cX0_speaks 25 = .ok (.ireturn, 1) := dk_172 (dk_at dksX0_speaks_1 1 rfl rfl)
theorem dX0_speaks_26 : decode cX0_speaks 26 = .ok (.iconst 0, 1) := dk_3 (dk_at dksX0_speaks_1 2 rfl rfl)
theorem dX0_speaks_27 : decode cX0_speaks 27 = .ok (.ireturn, 1) := dk_172 (dk_at dksX0_speaks_1 3 rfl rfl)
abbrev cX0_speakers : ByteArray := method_7_code
def yX0_speakers : MethodName := ⟨RX0, "speakers", "(LRoseProverbs;II[J)I"⟩
def dkwX0_speakers_0 : List UInt8 := [45, 3, 42, 27, 28, 182, 0, 28, 133, 80, 167, 0, 7, 58, 4, 4, 172, 3, 172]
abbrev dktX0_speakers_0 : List UInt8 := dkwX0_speakers_0 ++ []
theorem dksX0_speakers_0 : cX0_speakers.data.toList.drop 0 = dktX0_speakers_0 := by decide +kernel
theorem dX0_speakers_0 : decode cX0_speakers 0 = .ok (.aload_n 3, 1) := dk_45 (dk_at dksX0_speakers_0 0 rfl rfl)
theorem dX0_speakers_1 : decode cX0_speakers 1 = .ok (.iconst 0, 1) := dk_3 (dk_at dksX0_speakers_0 1 rfl rfl)
theorem dX0_speakers_2 : decode cX0_speakers 2 = .ok (.aload_n 0, 1) := dk_42 (dk_at dksX0_speakers_0 2 rfl rfl)
theorem dX0_speakers_3 : decode cX0_speakers 3 = .ok (.iload_n 1, 1) := dk_27 (dk_at dksX0_speakers_0 3 rfl rfl)
theorem dX0_speakers_4 : decode cX0_speakers 4 = .ok (.iload_n 2, 1) := dk_28 (dk_at dksX0_speakers_0 4 rfl rfl)
theorem dX0_speakers_5 : decode cX0_speakers 5 = .ok (.invokevirtual 28, 3) := dk_182 0 28 (dk_at dksX0_speakers_0 5 rfl rfl)
theorem dX0_speakers_8 : decode cX0_speakers 8 = .ok (.i2l, 1) := dk_133 (dk_at dksX0_speakers_0 8 rfl rfl)
theorem dX0_speakers_9 : decode cX0_speakers 9 = .ok (.lastore, 1) := dk_80 (dk_at dksX0_speakers_0 9 rfl rfl)
theorem dX0_speakers_10 : decode cX0_speakers 10 = .ok (.goto 7, 3) := dk_167 0 7 (dk_at dksX0_speakers_0 10 rfl rfl)
theorem dX0_speakers_13 : decode cX0_speakers 13 = .ok (.astore 4, 2) := dk_58 4 (dk_at dksX0_speakers_0 13 rfl rfl)
theorem dX0_speakers_15 : decode cX0_speakers 15 = .ok (.iconst 1, 1) := dk_4 (dk_at dksX0_speakers_0 15 rfl rfl)
theorem dX0_speakers_16 : decode cX0_speakers 16 = .ok (.ireturn, 1) := dk_172 (dk_at dksX0_speakers_0 16 rfl rfl)
theorem dX0_speakers_17 : decode cX0_speakers 17 = .ok (.iconst 0, 1) := dk_3 (dk_at dksX0_speakers_0 17 rfl rfl)
theorem dX0_speakers_18 : decode cX0_speakers 18 = .ok (.ireturn, 1) := dk_172 (dk_at dksX0_speakers_0 18 rfl rfl)
abbrev cX0_speaker : ByteArray := method_8_code
def yX0_speaker : MethodName := ⟨RX0, "speaker", "(LRoseProverbs;III[J)I"⟩
def dkwX0_speaker_0 : List UInt8 := [25, 4, 3, 42, 27, 28, 29, 182, 0, 31, 133, 80, 167, 0, 7, 58, 5, 4, 172, 3, 172]
abbrev dktX0_speaker_0 : List UInt8 := dkwX0_speaker_0 ++ []
theorem dksX0_speaker_0 : cX0_speaker.data.toList.drop 0 = dktX0_speaker_0 := by decide +kernel
theorem dX0_speaker_0 : decode cX0_speaker 0 = .ok (.aload 4, 2) := dk_25 4 (dk_at dksX0_speaker_0 0 rfl rfl)
theorem dX0_speaker_2 : decode cX0_speaker 2 = .ok (.iconst 0, 1) := dk_3 (dk_at dksX0_speaker_0 2 rfl rfl)
theorem dX0_speaker_3 : decode cX0_speaker 3 = .ok (.aload_n 0, 1) := dk_42 (dk_at dksX0_speaker_0 3 rfl rfl)
theorem dX0_speaker_4 : decode cX0_speaker 4 = .ok (.iload_n 1, 1) := dk_27 (dk_at dksX0_speaker_0 4 rfl rfl)
theorem dX0_speaker_5 : decode cX0_speaker 5 = .ok (.iload_n 2, 1) := dk_28 (dk_at dksX0_speaker_0 5 rfl rfl)
theorem dX0_speaker_6 : decode cX0_speaker 6 = .ok (.iload_n 3, 1) := dk_29 (dk_at dksX0_speaker_0 6 rfl rfl)
theorem dX0_speaker_7 : decode cX0_speaker 7 = .ok (.invokevirtual 31, 3) := dk_182 0 31 (dk_at dksX0_speaker_0 7 rfl rfl)
theorem dX0_speaker_10 : decode cX0_speaker 10 = .ok (.i2l, 1) := dk_133 (dk_at dksX0_speaker_0 10 rfl rfl)
theorem dX0_speaker_11 : decode cX0_speaker 11 = .ok (.lastore, 1) := dk_80 (dk_at dksX0_speaker_0 11 rfl rfl)
theorem dX0_speaker_12 : decode cX0_speaker 12 = .ok (.goto 7, 3) := dk_167 0 7 (dk_at dksX0_speaker_0 12 rfl rfl)
theorem dX0_speaker_15 : decode cX0_speaker 15 = .ok (.astore 5, 2) := dk_58 5 (dk_at dksX0_speaker_0 15 rfl rfl)
theorem dX0_speaker_17 : decode cX0_speaker 17 = .ok (.iconst 1, 1) := dk_4 (dk_at dksX0_speaker_0 17 rfl rfl)
theorem dX0_speaker_18 : decode cX0_speaker 18 = .ok (.ireturn, 1) := dk_172 (dk_at dksX0_speaker_0 18 rfl rfl)
theorem dX0_speaker_19 : decode cX0_speaker 19 = .ok (.iconst 0, 1) := dk_3 (dk_at dksX0_speaker_0 19 rfl rfl)
theorem dX0_speaker_20 : decode cX0_speaker 20 = .ok (.ireturn, 1) := dk_172 (dk_at dksX0_speaker_0 20 rfl rfl)
abbrev cX0_voice : ByteArray := method_9_code
def yX0_voice : MethodName := ⟨RX0, "voice", "(LRoseProverbs;III[J)I"⟩
def dkwX0_voice_1 : List UInt8 := [172]
abbrev dktX0_voice_1 : List UInt8 := dkwX0_voice_1 ++ []
def dkwX0_voice_0 : List UInt8 := [25, 4, 3, 42, 27, 28, 29, 182, 0, 35, 133, 80, 167, 0, 11, 58, 5, 4, 172, 58, 5, 5, 172, 3]
abbrev dktX0_voice_0 : List UInt8 := dkwX0_voice_0 ++ dktX0_voice_1
theorem dksX0_voice_0 : cX0_voice.data.toList.drop 0 = dktX0_voice_0 := by decide +kernel
theorem dksX0_voice_1 : cX0_voice.data.toList.drop 24 = dktX0_voice_1 := dk_seg dksX0_voice_0 24 rfl rfl
theorem dX0_voice_0 : decode cX0_voice 0 = .ok (.aload 4, 2) := dk_25 4 (dk_at dksX0_voice_0 0 rfl rfl)
theorem dX0_voice_2 : decode cX0_voice 2 = .ok (.iconst 0, 1) := dk_3 (dk_at dksX0_voice_0 2 rfl rfl)
theorem dX0_voice_3 : decode cX0_voice 3 = .ok (.aload_n 0, 1) := dk_42 (dk_at dksX0_voice_0 3 rfl rfl)
theorem dX0_voice_4 : decode cX0_voice 4 = .ok (.iload_n 1, 1) := dk_27 (dk_at dksX0_voice_0 4 rfl rfl)
theorem dX0_voice_5 : decode cX0_voice 5 = .ok (.iload_n 2, 1) := dk_28 (dk_at dksX0_voice_0 5 rfl rfl)
theorem dX0_voice_6 : decode cX0_voice 6 = .ok (.iload_n 3, 1) := dk_29 (dk_at dksX0_voice_0 6 rfl rfl)
theorem dX0_voice_7 : decode cX0_voice 7 = .ok (.invokevirtual 35, 3) := dk_182 0 35 (dk_at dksX0_voice_0 7 rfl rfl)
theorem dX0_voice_10 : decode cX0_voice 10 = .ok (.i2l, 1) := dk_133 (dk_at dksX0_voice_0 10 rfl rfl)
theorem dX0_voice_11 : decode cX0_voice 11 = .ok (.lastore, 1) := dk_80 (dk_at dksX0_voice_0 11 rfl rfl)
theorem dX0_voice_12 : decode cX0_voice 12 = .ok (.goto 11, 3) := dk_167 0 11 (dk_at dksX0_voice_0 12 rfl rfl)
theorem dX0_voice_15 : decode cX0_voice 15 = .ok (.astore 5, 2) := dk_58 5 (dk_at dksX0_voice_0 15 rfl rfl)
theorem dX0_voice_17 : decode cX0_voice 17 = .ok (.iconst 1, 1) := dk_4 (dk_at dksX0_voice_0 17 rfl rfl)
theorem dX0_voice_18 : decode cX0_voice 18 = .ok (.ireturn, 1) := dk_172 (dk_at dksX0_voice_0 18 rfl rfl)
theorem dX0_voice_19 : decode cX0_voice 19 = .ok (.astore 5, 2) := dk_58 5 (dk_at dksX0_voice_0 19 rfl rfl)
theorem dX0_voice_21 : decode cX0_voice 21 = .ok (.iconst 2, 1) := dk_5 (dk_at dksX0_voice_0 21 rfl rfl)
theorem dX0_voice_22 : decode cX0_voice 22 = .ok (.ireturn, 1) := dk_172 (dk_at dksX0_voice_0 22 rfl rfl)
theorem dX0_voice_23 : decode cX0_voice 23 = .ok (.iconst 0, 1) := dk_3 (dk_at dksX0_voice_0 23 rfl rfl)
theorem dX0_voice_24 : decode cX0_voice 24 = .ok (.ireturn, 1) := dk_172 (dk_at dksX0_voice_1 0 rfl rfl)
abbrev cX0_told : ByteArray := method_10_code
def yX0_told : MethodName := ⟨RX0, "told", "(LRoseProverbs;II[J)I"⟩
def dkwX0_told_0 : List UInt8 := [45, 3, 42, 27, 28, 182, 0, 38, 133, 80, 167, 0, 7, 58, 4, 4, 172, 3, 172]
abbrev dktX0_told_0 : List UInt8 := dkwX0_told_0 ++ []
theorem dksX0_told_0 : cX0_told.data.toList.drop 0 = dktX0_told_0 := by decide +kernel
theorem dX0_told_0 : decode cX0_told 0 = .ok (.aload_n 3, 1) := dk_45 (dk_at dksX0_told_0 0 rfl rfl)
theorem dX0_told_1 : decode cX0_told 1 = .ok (.iconst 0, 1) := dk_3 (dk_at dksX0_told_0 1 rfl rfl)
theorem dX0_told_2 : decode cX0_told 2 = .ok (.aload_n 0, 1) := dk_42 (dk_at dksX0_told_0 2 rfl rfl)
theorem dX0_told_3 : decode cX0_told 3 = .ok (.iload_n 1, 1) := dk_27 (dk_at dksX0_told_0 3 rfl rfl)
theorem dX0_told_4 : decode cX0_told 4 = .ok (.iload_n 2, 1) := dk_28 (dk_at dksX0_told_0 4 rfl rfl)
theorem dX0_told_5 : decode cX0_told 5 = .ok (.invokevirtual 38, 3) := dk_182 0 38 (dk_at dksX0_told_0 5 rfl rfl)
theorem dX0_told_8 : decode cX0_told 8 = .ok (.i2l, 1) := dk_133 (dk_at dksX0_told_0 8 rfl rfl)
theorem dX0_told_9 : decode cX0_told 9 = .ok (.lastore, 1) := dk_80 (dk_at dksX0_told_0 9 rfl rfl)
theorem dX0_told_10 : decode cX0_told 10 = .ok (.goto 7, 3) := dk_167 0 7 (dk_at dksX0_told_0 10 rfl rfl)
theorem dX0_told_13 : decode cX0_told 13 = .ok (.astore 4, 2) := dk_58 4 (dk_at dksX0_told_0 13 rfl rfl)
theorem dX0_told_15 : decode cX0_told 15 = .ok (.iconst 1, 1) := dk_4 (dk_at dksX0_told_0 15 rfl rfl)
theorem dX0_told_16 : decode cX0_told 16 = .ok (.ireturn, 1) := dk_172 (dk_at dksX0_told_0 16 rfl rfl)
theorem dX0_told_17 : decode cX0_told 17 = .ok (.iconst 0, 1) := dk_3 (dk_at dksX0_told_0 17 rfl rfl)
theorem dX0_told_18 : decode cX0_told 18 = .ok (.ireturn, 1) := dk_172 (dk_at dksX0_told_0 18 rfl rfl)
abbrev cX0_lead : ByteArray := method_11_code
def yX0_lead : MethodName := ⟨RX0, "lead", "(LRoseProverbs;II[J)I"⟩
def dkwX0_lead_0 : List UInt8 := [45, 3, 42, 27, 28, 182, 0, 41, 133, 80, 167, 0, 7, 58, 4, 4, 172, 3, 172]
abbrev dktX0_lead_0 : List UInt8 := dkwX0_lead_0 ++ []
theorem dksX0_lead_0 : cX0_lead.data.toList.drop 0 = dktX0_lead_0 := by decide +kernel
theorem dX0_lead_0 : decode cX0_lead 0 = .ok (.aload_n 3, 1) := dk_45 (dk_at dksX0_lead_0 0 rfl rfl)
theorem dX0_lead_1 : decode cX0_lead 1 = .ok (.iconst 0, 1) := dk_3 (dk_at dksX0_lead_0 1 rfl rfl)
theorem dX0_lead_2 : decode cX0_lead 2 = .ok (.aload_n 0, 1) := dk_42 (dk_at dksX0_lead_0 2 rfl rfl)
theorem dX0_lead_3 : decode cX0_lead 3 = .ok (.iload_n 1, 1) := dk_27 (dk_at dksX0_lead_0 3 rfl rfl)
theorem dX0_lead_4 : decode cX0_lead 4 = .ok (.iload_n 2, 1) := dk_28 (dk_at dksX0_lead_0 4 rfl rfl)
theorem dX0_lead_5 : decode cX0_lead 5 = .ok (.invokevirtual 41, 3) := dk_182 0 41 (dk_at dksX0_lead_0 5 rfl rfl)
theorem dX0_lead_8 : decode cX0_lead 8 = .ok (.i2l, 1) := dk_133 (dk_at dksX0_lead_0 8 rfl rfl)
theorem dX0_lead_9 : decode cX0_lead 9 = .ok (.lastore, 1) := dk_80 (dk_at dksX0_lead_0 9 rfl rfl)
theorem dX0_lead_10 : decode cX0_lead 10 = .ok (.goto 7, 3) := dk_167 0 7 (dk_at dksX0_lead_0 10 rfl rfl)
theorem dX0_lead_13 : decode cX0_lead 13 = .ok (.astore 4, 2) := dk_58 4 (dk_at dksX0_lead_0 13 rfl rfl)
theorem dX0_lead_15 : decode cX0_lead 15 = .ok (.iconst 1, 1) := dk_4 (dk_at dksX0_lead_0 15 rfl rfl)
theorem dX0_lead_16 : decode cX0_lead 16 = .ok (.ireturn, 1) := dk_172 (dk_at dksX0_lead_0 16 rfl rfl)
theorem dX0_lead_17 : decode cX0_lead 17 = .ok (.iconst 0, 1) := dk_3 (dk_at dksX0_lead_0 17 rfl rfl)
theorem dX0_lead_18 : decode cX0_lead 18 = .ok (.ireturn, 1) := dk_172 (dk_at dksX0_lead_0 18 rfl rfl)
abbrev cX0_why : ByteArray := method_12_code
def yX0_why : MethodName := ⟨RX0, "why", "(LRoseProverbs;IIII[J)I"⟩
def dkwX0_why_1 : List UInt8 := [172, 3, 172]
abbrev dktX0_why_1 : List UInt8 := dkwX0_why_1 ++ []
def dkwX0_why_0 : List UInt8 := [25, 5, 3, 42, 27, 28, 29, 21, 4, 182, 0, 44, 133, 80, 167, 0, 11, 58, 6, 4, 172, 58, 6, 5]
abbrev dktX0_why_0 : List UInt8 := dkwX0_why_0 ++ dktX0_why_1
theorem dksX0_why_0 : cX0_why.data.toList.drop 0 = dktX0_why_0 := by decide +kernel
theorem dksX0_why_1 : cX0_why.data.toList.drop 24 = dktX0_why_1 := dk_seg dksX0_why_0 24 rfl rfl
theorem dX0_why_0 : decode cX0_why 0 = .ok (.aload 5, 2) := dk_25 5 (dk_at dksX0_why_0 0 rfl rfl)
theorem dX0_why_2 : decode cX0_why 2 = .ok (.iconst 0, 1) := dk_3 (dk_at dksX0_why_0 2 rfl rfl)
theorem dX0_why_3 : decode cX0_why 3 = .ok (.aload_n 0, 1) := dk_42 (dk_at dksX0_why_0 3 rfl rfl)
theorem dX0_why_4 : decode cX0_why 4 = .ok (.iload_n 1, 1) := dk_27 (dk_at dksX0_why_0 4 rfl rfl)
theorem dX0_why_5 : decode cX0_why 5 = .ok (.iload_n 2, 1) := dk_28 (dk_at dksX0_why_0 5 rfl rfl)
theorem dX0_why_6 : decode cX0_why 6 = .ok (.iload_n 3, 1) := dk_29 (dk_at dksX0_why_0 6 rfl rfl)
theorem dX0_why_7 : decode cX0_why 7 = .ok (.iload 4, 2) := dk_21 4 (dk_at dksX0_why_0 7 rfl rfl)
theorem dX0_why_9 : decode cX0_why 9 = .ok (.invokevirtual 44, 3) := dk_182 0 44 (dk_at dksX0_why_0 9 rfl rfl)
theorem dX0_why_12 : decode cX0_why 12 = .ok (.i2l, 1) := dk_133 (dk_at dksX0_why_0 12 rfl rfl)
theorem dX0_why_13 : decode cX0_why 13 = .ok (.lastore, 1) := dk_80 (dk_at dksX0_why_0 13 rfl rfl)
theorem dX0_why_14 : decode cX0_why 14 = .ok (.goto 11, 3) := dk_167 0 11 (dk_at dksX0_why_0 14 rfl rfl)
theorem dX0_why_17 : decode cX0_why 17 = .ok (.astore 6, 2) := dk_58 6 (dk_at dksX0_why_0 17 rfl rfl)
theorem dX0_why_19 : decode cX0_why 19 = .ok (.iconst 1, 1) := dk_4 (dk_at dksX0_why_0 19 rfl rfl)
theorem dX0_why_20 : decode cX0_why 20 = .ok (.ireturn, 1) := dk_172 (dk_at dksX0_why_0 20 rfl rfl)
theorem dX0_why_21 : decode cX0_why 21 = .ok (.astore 6, 2) := dk_58 6 (dk_at dksX0_why_0 21 rfl rfl)
theorem dX0_why_23 : decode cX0_why 23 = .ok (.iconst 2, 1) := dk_5 (dk_at dksX0_why_0 23 rfl rfl)
theorem dX0_why_24 : decode cX0_why 24 = .ok (.ireturn, 1) := dk_172 (dk_at dksX0_why_1 0 rfl rfl)
theorem dX0_why_25 : decode cX0_why 25 = .ok (.iconst 0, 1) := dk_3 (dk_at dksX0_why_1 1 rfl rfl)
theorem dX0_why_26 : decode cX0_why 26 = .ok (.ireturn, 1) := dk_172 (dk_at dksX0_why_1 2 rfl rfl)
abbrev cX0_clash : ByteArray := method_13_code
def yX0_clash : MethodName := ⟨RX0, "clash", "(LRoseProverbs;II[J)I"⟩
def dkwX0_clash_1 : List UInt8 := [3, 172]
abbrev dktX0_clash_1 : List UInt8 := dkwX0_clash_1 ++ []
def dkwX0_clash_0 : List UInt8 := [45, 3, 42, 27, 28, 182, 0, 48, 153, 0, 7, 10, 167, 0, 4, 9, 80, 167, 0, 7, 58, 4, 4, 172]
abbrev dktX0_clash_0 : List UInt8 := dkwX0_clash_0 ++ dktX0_clash_1
theorem dksX0_clash_0 : cX0_clash.data.toList.drop 0 = dktX0_clash_0 := by decide +kernel
theorem dksX0_clash_1 : cX0_clash.data.toList.drop 24 = dktX0_clash_1 := dk_seg dksX0_clash_0 24 rfl rfl
theorem dX0_clash_0 : decode cX0_clash 0 = .ok (.aload_n 3, 1) := dk_45 (dk_at dksX0_clash_0 0 rfl rfl)
theorem dX0_clash_1 : decode cX0_clash 1 = .ok (.iconst 0, 1) := dk_3 (dk_at dksX0_clash_0 1 rfl rfl)
theorem dX0_clash_2 : decode cX0_clash 2 = .ok (.aload_n 0, 1) := dk_42 (dk_at dksX0_clash_0 2 rfl rfl)
theorem dX0_clash_3 : decode cX0_clash 3 = .ok (.iload_n 1, 1) := dk_27 (dk_at dksX0_clash_0 3 rfl rfl)
theorem dX0_clash_4 : decode cX0_clash 4 = .ok (.iload_n 2, 1) := dk_28 (dk_at dksX0_clash_0 4 rfl rfl)
theorem dX0_clash_5 : decode cX0_clash 5 = .ok (.invokevirtual 48, 3) := dk_182 0 48 (dk_at dksX0_clash_0 5 rfl rfl)
theorem dX0_clash_8 : decode cX0_clash 8 = .ok (.ifCond .eq 7, 3) := dk_153 0 7 (dk_at dksX0_clash_0 8 rfl rfl)
theorem dX0_clash_11 : decode cX0_clash 11 = .ok (.lconst 1, 1) := dk_10 (dk_at dksX0_clash_0 11 rfl rfl)
theorem dX0_clash_12 : decode cX0_clash 12 = .ok (.goto 4, 3) := dk_167 0 4 (dk_at dksX0_clash_0 12 rfl rfl)
theorem dX0_clash_15 : decode cX0_clash 15 = .ok (.lconst 0, 1) := dk_9 (dk_at dksX0_clash_0 15 rfl rfl)
theorem dX0_clash_16 : decode cX0_clash 16 = .ok (.lastore, 1) := dk_80 (dk_at dksX0_clash_0 16 rfl rfl)
theorem dX0_clash_17 : decode cX0_clash 17 = .ok (.goto 7, 3) := dk_167 0 7 (dk_at dksX0_clash_0 17 rfl rfl)
theorem dX0_clash_20 : decode cX0_clash 20 = .ok (.astore 4, 2) := dk_58 4 (dk_at dksX0_clash_0 20 rfl rfl)
theorem dX0_clash_22 : decode cX0_clash 22 = .ok (.iconst 1, 1) := dk_4 (dk_at dksX0_clash_0 22 rfl rfl)
theorem dX0_clash_23 : decode cX0_clash 23 = .ok (.ireturn, 1) := dk_172 (dk_at dksX0_clash_0 23 rfl rfl)
theorem dX0_clash_24 : decode cX0_clash 24 = .ok (.iconst 0, 1) := dk_3 (dk_at dksX0_clash_1 0 rfl rfl)
theorem dX0_clash_25 : decode cX0_clash 25 = .ok (.ireturn, 1) := dk_172 (dk_at dksX0_clash_1 1 rfl rfl)
abbrev cX0_met : ByteArray := method_14_code
def yX0_met : MethodName := ⟨RX0, "met", "(LRoseProverbs;II[J)I"⟩
def dkwX0_met_0 : List UInt8 := [45, 3, 42, 27, 28, 182, 0, 52, 133, 80, 167, 0, 7, 58, 4, 4, 172, 3, 172]
abbrev dktX0_met_0 : List UInt8 := dkwX0_met_0 ++ []
theorem dksX0_met_0 : cX0_met.data.toList.drop 0 = dktX0_met_0 := by decide +kernel
theorem dX0_met_0 : decode cX0_met 0 = .ok (.aload_n 3, 1) := dk_45 (dk_at dksX0_met_0 0 rfl rfl)
theorem dX0_met_1 : decode cX0_met 1 = .ok (.iconst 0, 1) := dk_3 (dk_at dksX0_met_0 1 rfl rfl)
theorem dX0_met_2 : decode cX0_met 2 = .ok (.aload_n 0, 1) := dk_42 (dk_at dksX0_met_0 2 rfl rfl)
theorem dX0_met_3 : decode cX0_met 3 = .ok (.iload_n 1, 1) := dk_27 (dk_at dksX0_met_0 3 rfl rfl)
theorem dX0_met_4 : decode cX0_met 4 = .ok (.iload_n 2, 1) := dk_28 (dk_at dksX0_met_0 4 rfl rfl)
theorem dX0_met_5 : decode cX0_met 5 = .ok (.invokevirtual 52, 3) := dk_182 0 52 (dk_at dksX0_met_0 5 rfl rfl)
theorem dX0_met_8 : decode cX0_met 8 = .ok (.i2l, 1) := dk_133 (dk_at dksX0_met_0 8 rfl rfl)
theorem dX0_met_9 : decode cX0_met 9 = .ok (.lastore, 1) := dk_80 (dk_at dksX0_met_0 9 rfl rfl)
theorem dX0_met_10 : decode cX0_met 10 = .ok (.goto 7, 3) := dk_167 0 7 (dk_at dksX0_met_0 10 rfl rfl)
theorem dX0_met_13 : decode cX0_met 13 = .ok (.astore 4, 2) := dk_58 4 (dk_at dksX0_met_0 13 rfl rfl)
theorem dX0_met_15 : decode cX0_met 15 = .ok (.iconst 1, 1) := dk_4 (dk_at dksX0_met_0 15 rfl rfl)
theorem dX0_met_16 : decode cX0_met 16 = .ok (.ireturn, 1) := dk_172 (dk_at dksX0_met_0 16 rfl rfl)
theorem dX0_met_17 : decode cX0_met 17 = .ok (.iconst 0, 1) := dk_3 (dk_at dksX0_met_0 17 rfl rfl)
theorem dX0_met_18 : decode cX0_met 18 = .ok (.ireturn, 1) := dk_172 (dk_at dksX0_met_0 18 rfl rfl)
abbrev cX0_beat : ByteArray := method_15_code
def yX0_beat : MethodName := ⟨RX0, "beat", "(LRoseProverbs;II[J)I"⟩
def dkwX0_beat_0 : List UInt8 := [45, 3, 42, 27, 28, 182, 0, 55, 133, 80, 167, 0, 7, 58, 4, 4, 172, 3, 172]
abbrev dktX0_beat_0 : List UInt8 := dkwX0_beat_0 ++ []
theorem dksX0_beat_0 : cX0_beat.data.toList.drop 0 = dktX0_beat_0 := by decide +kernel
theorem dX0_beat_0 : decode cX0_beat 0 = .ok (.aload_n 3, 1) := dk_45 (dk_at dksX0_beat_0 0 rfl rfl)
theorem dX0_beat_1 : decode cX0_beat 1 = .ok (.iconst 0, 1) := dk_3 (dk_at dksX0_beat_0 1 rfl rfl)
theorem dX0_beat_2 : decode cX0_beat 2 = .ok (.aload_n 0, 1) := dk_42 (dk_at dksX0_beat_0 2 rfl rfl)
theorem dX0_beat_3 : decode cX0_beat 3 = .ok (.iload_n 1, 1) := dk_27 (dk_at dksX0_beat_0 3 rfl rfl)
theorem dX0_beat_4 : decode cX0_beat 4 = .ok (.iload_n 2, 1) := dk_28 (dk_at dksX0_beat_0 4 rfl rfl)
theorem dX0_beat_5 : decode cX0_beat 5 = .ok (.invokevirtual 55, 3) := dk_182 0 55 (dk_at dksX0_beat_0 5 rfl rfl)
theorem dX0_beat_8 : decode cX0_beat 8 = .ok (.i2l, 1) := dk_133 (dk_at dksX0_beat_0 8 rfl rfl)
theorem dX0_beat_9 : decode cX0_beat 9 = .ok (.lastore, 1) := dk_80 (dk_at dksX0_beat_0 9 rfl rfl)
theorem dX0_beat_10 : decode cX0_beat 10 = .ok (.goto 7, 3) := dk_167 0 7 (dk_at dksX0_beat_0 10 rfl rfl)
theorem dX0_beat_13 : decode cX0_beat 13 = .ok (.astore 4, 2) := dk_58 4 (dk_at dksX0_beat_0 13 rfl rfl)
theorem dX0_beat_15 : decode cX0_beat 15 = .ok (.iconst 1, 1) := dk_4 (dk_at dksX0_beat_0 15 rfl rfl)
theorem dX0_beat_16 : decode cX0_beat 16 = .ok (.ireturn, 1) := dk_172 (dk_at dksX0_beat_0 16 rfl rfl)
theorem dX0_beat_17 : decode cX0_beat 17 = .ok (.iconst 0, 1) := dk_3 (dk_at dksX0_beat_0 17 rfl rfl)
theorem dX0_beat_18 : decode cX0_beat 18 = .ok (.ireturn, 1) := dk_172 (dk_at dksX0_beat_0 18 rfl rfl)
abbrev cX0_rival : ByteArray := method_16_code
def yX0_rival : MethodName := ⟨RX0, "rival", "(LRoseProverbs;I[J)I"⟩
def dkwX0_rival_0 : List UInt8 := [44, 3, 42, 27, 182, 0, 58, 133, 80, 167, 0, 6, 78, 4, 172, 3, 172]
abbrev dktX0_rival_0 : List UInt8 := dkwX0_rival_0 ++ []
theorem dksX0_rival_0 : cX0_rival.data.toList.drop 0 = dktX0_rival_0 := by decide +kernel
theorem dX0_rival_0 : decode cX0_rival 0 = .ok (.aload_n 2, 1) := dk_44 (dk_at dksX0_rival_0 0 rfl rfl)
theorem dX0_rival_1 : decode cX0_rival 1 = .ok (.iconst 0, 1) := dk_3 (dk_at dksX0_rival_0 1 rfl rfl)
theorem dX0_rival_2 : decode cX0_rival 2 = .ok (.aload_n 0, 1) := dk_42 (dk_at dksX0_rival_0 2 rfl rfl)
theorem dX0_rival_3 : decode cX0_rival 3 = .ok (.iload_n 1, 1) := dk_27 (dk_at dksX0_rival_0 3 rfl rfl)
theorem dX0_rival_4 : decode cX0_rival 4 = .ok (.invokevirtual 58, 3) := dk_182 0 58 (dk_at dksX0_rival_0 4 rfl rfl)
theorem dX0_rival_7 : decode cX0_rival 7 = .ok (.i2l, 1) := dk_133 (dk_at dksX0_rival_0 7 rfl rfl)
theorem dX0_rival_8 : decode cX0_rival 8 = .ok (.lastore, 1) := dk_80 (dk_at dksX0_rival_0 8 rfl rfl)
theorem dX0_rival_9 : decode cX0_rival 9 = .ok (.goto 6, 3) := dk_167 0 6 (dk_at dksX0_rival_0 9 rfl rfl)
theorem dX0_rival_12 : decode cX0_rival 12 = .ok (.astore_n 3, 1) := dk_78 (dk_at dksX0_rival_0 12 rfl rfl)
theorem dX0_rival_13 : decode cX0_rival 13 = .ok (.iconst 1, 1) := dk_4 (dk_at dksX0_rival_0 13 rfl rfl)
theorem dX0_rival_14 : decode cX0_rival 14 = .ok (.ireturn, 1) := dk_172 (dk_at dksX0_rival_0 14 rfl rfl)
theorem dX0_rival_15 : decode cX0_rival 15 = .ok (.iconst 0, 1) := dk_3 (dk_at dksX0_rival_0 15 rfl rfl)
theorem dX0_rival_16 : decode cX0_rival 16 = .ok (.ireturn, 1) := dk_172 (dk_at dksX0_rival_0 16 rfl rfl)
abbrev cX0_year : ByteArray := method_17_code
def yX0_year : MethodName := ⟨RX0, "year", "(LRoseProverbs;II[J)I"⟩
def dkwX0_year_0 : List UInt8 := [45, 3, 42, 27, 28, 182, 0, 61, 133, 80, 167, 0, 7, 58, 4, 4, 172, 3, 172]
abbrev dktX0_year_0 : List UInt8 := dkwX0_year_0 ++ []
theorem dksX0_year_0 : cX0_year.data.toList.drop 0 = dktX0_year_0 := by decide +kernel
theorem dX0_year_0 : decode cX0_year 0 = .ok (.aload_n 3, 1) := dk_45 (dk_at dksX0_year_0 0 rfl rfl)
theorem dX0_year_1 : decode cX0_year 1 = .ok (.iconst 0, 1) := dk_3 (dk_at dksX0_year_0 1 rfl rfl)
theorem dX0_year_2 : decode cX0_year 2 = .ok (.aload_n 0, 1) := dk_42 (dk_at dksX0_year_0 2 rfl rfl)
theorem dX0_year_3 : decode cX0_year 3 = .ok (.iload_n 1, 1) := dk_27 (dk_at dksX0_year_0 3 rfl rfl)
theorem dX0_year_4 : decode cX0_year 4 = .ok (.iload_n 2, 1) := dk_28 (dk_at dksX0_year_0 4 rfl rfl)
theorem dX0_year_5 : decode cX0_year 5 = .ok (.invokevirtual 61, 3) := dk_182 0 61 (dk_at dksX0_year_0 5 rfl rfl)
theorem dX0_year_8 : decode cX0_year 8 = .ok (.i2l, 1) := dk_133 (dk_at dksX0_year_0 8 rfl rfl)
theorem dX0_year_9 : decode cX0_year 9 = .ok (.lastore, 1) := dk_80 (dk_at dksX0_year_0 9 rfl rfl)
theorem dX0_year_10 : decode cX0_year 10 = .ok (.goto 7, 3) := dk_167 0 7 (dk_at dksX0_year_0 10 rfl rfl)
theorem dX0_year_13 : decode cX0_year 13 = .ok (.astore 4, 2) := dk_58 4 (dk_at dksX0_year_0 13 rfl rfl)
theorem dX0_year_15 : decode cX0_year 15 = .ok (.iconst 1, 1) := dk_4 (dk_at dksX0_year_0 15 rfl rfl)
theorem dX0_year_16 : decode cX0_year 16 = .ok (.ireturn, 1) := dk_172 (dk_at dksX0_year_0 16 rfl rfl)
theorem dX0_year_17 : decode cX0_year 17 = .ok (.iconst 0, 1) := dk_3 (dk_at dksX0_year_0 17 rfl rfl)
theorem dX0_year_18 : decode cX0_year 18 = .ok (.ireturn, 1) := dk_172 (dk_at dksX0_year_0 18 rfl rfl)
abbrev cX0_dayOf : ByteArray := method_18_code
def yX0_dayOf : MethodName := ⟨RX0, "dayOf", "(LRoseProverbs;II[J)I"⟩
def dkwX0_dayOf_0 : List UInt8 := [45, 3, 42, 27, 28, 182, 0, 64, 133, 80, 167, 0, 7, 58, 4, 4, 172, 3, 172]
abbrev dktX0_dayOf_0 : List UInt8 := dkwX0_dayOf_0 ++ []
theorem dksX0_dayOf_0 : cX0_dayOf.data.toList.drop 0 = dktX0_dayOf_0 := by decide +kernel
theorem dX0_dayOf_0 : decode cX0_dayOf 0 = .ok (.aload_n 3, 1) := dk_45 (dk_at dksX0_dayOf_0 0 rfl rfl)
theorem dX0_dayOf_1 : decode cX0_dayOf 1 = .ok (.iconst 0, 1) := dk_3 (dk_at dksX0_dayOf_0 1 rfl rfl)
theorem dX0_dayOf_2 : decode cX0_dayOf 2 = .ok (.aload_n 0, 1) := dk_42 (dk_at dksX0_dayOf_0 2 rfl rfl)
theorem dX0_dayOf_3 : decode cX0_dayOf 3 = .ok (.iload_n 1, 1) := dk_27 (dk_at dksX0_dayOf_0 3 rfl rfl)
theorem dX0_dayOf_4 : decode cX0_dayOf 4 = .ok (.iload_n 2, 1) := dk_28 (dk_at dksX0_dayOf_0 4 rfl rfl)
theorem dX0_dayOf_5 : decode cX0_dayOf 5 = .ok (.invokevirtual 64, 3) := dk_182 0 64 (dk_at dksX0_dayOf_0 5 rfl rfl)
theorem dX0_dayOf_8 : decode cX0_dayOf 8 = .ok (.i2l, 1) := dk_133 (dk_at dksX0_dayOf_0 8 rfl rfl)
theorem dX0_dayOf_9 : decode cX0_dayOf 9 = .ok (.lastore, 1) := dk_80 (dk_at dksX0_dayOf_0 9 rfl rfl)
theorem dX0_dayOf_10 : decode cX0_dayOf 10 = .ok (.goto 7, 3) := dk_167 0 7 (dk_at dksX0_dayOf_0 10 rfl rfl)
theorem dX0_dayOf_13 : decode cX0_dayOf 13 = .ok (.astore 4, 2) := dk_58 4 (dk_at dksX0_dayOf_0 13 rfl rfl)
theorem dX0_dayOf_15 : decode cX0_dayOf 15 = .ok (.iconst 1, 1) := dk_4 (dk_at dksX0_dayOf_0 15 rfl rfl)
theorem dX0_dayOf_16 : decode cX0_dayOf 16 = .ok (.ireturn, 1) := dk_172 (dk_at dksX0_dayOf_0 16 rfl rfl)
theorem dX0_dayOf_17 : decode cX0_dayOf 17 = .ok (.iconst 0, 1) := dk_3 (dk_at dksX0_dayOf_0 17 rfl rfl)
theorem dX0_dayOf_18 : decode cX0_dayOf 18 = .ok (.ireturn, 1) := dk_172 (dk_at dksX0_dayOf_0 18 rfl rfl)
abbrev cX0_turnsIn : ByteArray := method_19_code
def yX0_turnsIn : MethodName := ⟨RX0, "turnsIn", "(LRoseProverbs;II[J)I"⟩
def dkwX0_turnsIn_0 : List UInt8 := [45, 3, 42, 27, 28, 182, 0, 67, 133, 80, 167, 0, 11, 58, 4, 4, 172, 58, 4, 5, 172, 3, 172]
abbrev dktX0_turnsIn_0 : List UInt8 := dkwX0_turnsIn_0 ++ []
theorem dksX0_turnsIn_0 : cX0_turnsIn.data.toList.drop 0 = dktX0_turnsIn_0 := by decide +kernel
theorem dX0_turnsIn_0 : decode cX0_turnsIn 0 = .ok (.aload_n 3, 1) := dk_45 (dk_at dksX0_turnsIn_0 0 rfl rfl)
theorem dX0_turnsIn_1 : decode cX0_turnsIn 1 = .ok (.iconst 0, 1) := dk_3 (dk_at dksX0_turnsIn_0 1 rfl rfl)
theorem dX0_turnsIn_2 : decode cX0_turnsIn 2 = .ok (.aload_n 0, 1) := dk_42 (dk_at dksX0_turnsIn_0 2 rfl rfl)
theorem dX0_turnsIn_3 : decode cX0_turnsIn 3 = .ok (.iload_n 1, 1) := dk_27 (dk_at dksX0_turnsIn_0 3 rfl rfl)
theorem dX0_turnsIn_4 : decode cX0_turnsIn 4 = .ok (.iload_n 2, 1) := dk_28 (dk_at dksX0_turnsIn_0 4 rfl rfl)
theorem dX0_turnsIn_5 : decode cX0_turnsIn 5 = .ok (.invokevirtual 67, 3) := dk_182 0 67 (dk_at dksX0_turnsIn_0 5 rfl rfl)
theorem dX0_turnsIn_8 : decode cX0_turnsIn 8 = .ok (.i2l, 1) := dk_133 (dk_at dksX0_turnsIn_0 8 rfl rfl)
theorem dX0_turnsIn_9 : decode cX0_turnsIn 9 = .ok (.lastore, 1) := dk_80 (dk_at dksX0_turnsIn_0 9 rfl rfl)
theorem dX0_turnsIn_10 : decode cX0_turnsIn 10 = .ok (.goto 11, 3) := dk_167 0 11 (dk_at dksX0_turnsIn_0 10 rfl rfl)
theorem dX0_turnsIn_13 : decode cX0_turnsIn 13 = .ok (.astore 4, 2) := dk_58 4 (dk_at dksX0_turnsIn_0 13 rfl rfl)
theorem dX0_turnsIn_15 : decode cX0_turnsIn 15 = .ok (.iconst 1, 1) := dk_4 (dk_at dksX0_turnsIn_0 15 rfl rfl)
theorem dX0_turnsIn_16 : decode cX0_turnsIn 16 = .ok (.ireturn, 1) := dk_172 (dk_at dksX0_turnsIn_0 16 rfl rfl)
theorem dX0_turnsIn_17 : decode cX0_turnsIn 17 = .ok (.astore 4, 2) := dk_58 4 (dk_at dksX0_turnsIn_0 17 rfl rfl)
theorem dX0_turnsIn_19 : decode cX0_turnsIn 19 = .ok (.iconst 2, 1) := dk_5 (dk_at dksX0_turnsIn_0 19 rfl rfl)
theorem dX0_turnsIn_20 : decode cX0_turnsIn 20 = .ok (.ireturn, 1) := dk_172 (dk_at dksX0_turnsIn_0 20 rfl rfl)
theorem dX0_turnsIn_21 : decode cX0_turnsIn 21 = .ok (.iconst 0, 1) := dk_3 (dk_at dksX0_turnsIn_0 21 rfl rfl)
theorem dX0_turnsIn_22 : decode cX0_turnsIn 22 = .ok (.ireturn, 1) := dk_172 (dk_at dksX0_turnsIn_0 22 rfl rfl)
abbrev cX0_weightIn : ByteArray := method_20_code
def yX0_weightIn : MethodName := ⟨RX0, "weightIn", "(LRoseProverbs;IIII[J)I"⟩
def dkwX0_weightIn_1 : List UInt8 := [172, 3, 172]
abbrev dktX0_weightIn_1 : List UInt8 := dkwX0_weightIn_1 ++ []
def dkwX0_weightIn_0 : List UInt8 := [25, 5, 3, 42, 27, 28, 29, 21, 4, 182, 0, 70, 133, 80, 167, 0, 11, 58, 6, 4, 172, 58, 6, 5]
abbrev dktX0_weightIn_0 : List UInt8 := dkwX0_weightIn_0 ++ dktX0_weightIn_1
theorem dksX0_weightIn_0 : cX0_weightIn.data.toList.drop 0 = dktX0_weightIn_0 := by decide +kernel
theorem dksX0_weightIn_1 : cX0_weightIn.data.toList.drop 24 = dktX0_weightIn_1 := dk_seg dksX0_weightIn_0 24 rfl rfl
theorem dX0_weightIn_0 : decode cX0_weightIn 0 = .ok (.aload 5, 2) := dk_25 5 (dk_at dksX0_weightIn_0 0 rfl rfl)
theorem dX0_weightIn_2 : decode cX0_weightIn 2 = .ok (.iconst 0, 1) := dk_3 (dk_at dksX0_weightIn_0 2 rfl rfl)
theorem dX0_weightIn_3 : decode cX0_weightIn 3 = .ok (.aload_n 0, 1) := dk_42 (dk_at dksX0_weightIn_0 3 rfl rfl)
theorem dX0_weightIn_4 : decode cX0_weightIn 4 = .ok (.iload_n 1, 1) := dk_27 (dk_at dksX0_weightIn_0 4 rfl rfl)
theorem dX0_weightIn_5 : decode cX0_weightIn 5 = .ok (.iload_n 2, 1) := dk_28 (dk_at dksX0_weightIn_0 5 rfl rfl)
theorem dX0_weightIn_6 : decode cX0_weightIn 6 = .ok (.iload_n 3, 1) := dk_29 (dk_at dksX0_weightIn_0 6 rfl rfl)
theorem dX0_weightIn_7 : decode cX0_weightIn 7 = .ok (.iload 4, 2) := dk_21 4 (dk_at dksX0_weightIn_0 7 rfl rfl)
theorem dX0_weightIn_9 : decode cX0_weightIn 9 = .ok (.invokevirtual 70, 3) := dk_182 0 70 (dk_at dksX0_weightIn_0 9 rfl rfl)
theorem dX0_weightIn_12 : decode cX0_weightIn 12 = .ok (.i2l, 1) := dk_133 (dk_at dksX0_weightIn_0 12 rfl rfl)
theorem dX0_weightIn_13 : decode cX0_weightIn 13 = .ok (.lastore, 1) := dk_80 (dk_at dksX0_weightIn_0 13 rfl rfl)
theorem dX0_weightIn_14 : decode cX0_weightIn 14 = .ok (.goto 11, 3) := dk_167 0 11 (dk_at dksX0_weightIn_0 14 rfl rfl)
theorem dX0_weightIn_17 : decode cX0_weightIn 17 = .ok (.astore 6, 2) := dk_58 6 (dk_at dksX0_weightIn_0 17 rfl rfl)
theorem dX0_weightIn_19 : decode cX0_weightIn 19 = .ok (.iconst 1, 1) := dk_4 (dk_at dksX0_weightIn_0 19 rfl rfl)
theorem dX0_weightIn_20 : decode cX0_weightIn 20 = .ok (.ireturn, 1) := dk_172 (dk_at dksX0_weightIn_0 20 rfl rfl)
theorem dX0_weightIn_21 : decode cX0_weightIn 21 = .ok (.astore 6, 2) := dk_58 6 (dk_at dksX0_weightIn_0 21 rfl rfl)
theorem dX0_weightIn_23 : decode cX0_weightIn 23 = .ok (.iconst 2, 1) := dk_5 (dk_at dksX0_weightIn_0 23 rfl rfl)
theorem dX0_weightIn_24 : decode cX0_weightIn 24 = .ok (.ireturn, 1) := dk_172 (dk_at dksX0_weightIn_1 0 rfl rfl)
theorem dX0_weightIn_25 : decode cX0_weightIn 25 = .ok (.iconst 0, 1) := dk_3 (dk_at dksX0_weightIn_1 1 rfl rfl)
theorem dX0_weightIn_26 : decode cX0_weightIn 26 = .ok (.ireturn, 1) := dk_172 (dk_at dksX0_weightIn_1 2 rfl rfl)
abbrev cX0_rightBy : ByteArray := method_21_code
def yX0_rightBy : MethodName := ⟨RX0, "rightBy", "(LRoseProverbs;I[J)I"⟩
def dkwX0_rightBy_0 : List UInt8 := [44, 3, 42, 27, 182, 0, 73, 133, 80, 167, 0, 6, 78, 4, 172, 3, 172]
abbrev dktX0_rightBy_0 : List UInt8 := dkwX0_rightBy_0 ++ []
theorem dksX0_rightBy_0 : cX0_rightBy.data.toList.drop 0 = dktX0_rightBy_0 := by decide +kernel
theorem dX0_rightBy_0 : decode cX0_rightBy 0 = .ok (.aload_n 2, 1) := dk_44 (dk_at dksX0_rightBy_0 0 rfl rfl)
theorem dX0_rightBy_1 : decode cX0_rightBy 1 = .ok (.iconst 0, 1) := dk_3 (dk_at dksX0_rightBy_0 1 rfl rfl)
theorem dX0_rightBy_2 : decode cX0_rightBy 2 = .ok (.aload_n 0, 1) := dk_42 (dk_at dksX0_rightBy_0 2 rfl rfl)
theorem dX0_rightBy_3 : decode cX0_rightBy 3 = .ok (.iload_n 1, 1) := dk_27 (dk_at dksX0_rightBy_0 3 rfl rfl)
theorem dX0_rightBy_4 : decode cX0_rightBy 4 = .ok (.invokevirtual 73, 3) := dk_182 0 73 (dk_at dksX0_rightBy_0 4 rfl rfl)
theorem dX0_rightBy_7 : decode cX0_rightBy 7 = .ok (.i2l, 1) := dk_133 (dk_at dksX0_rightBy_0 7 rfl rfl)
theorem dX0_rightBy_8 : decode cX0_rightBy 8 = .ok (.lastore, 1) := dk_80 (dk_at dksX0_rightBy_0 8 rfl rfl)
theorem dX0_rightBy_9 : decode cX0_rightBy 9 = .ok (.goto 6, 3) := dk_167 0 6 (dk_at dksX0_rightBy_0 9 rfl rfl)
theorem dX0_rightBy_12 : decode cX0_rightBy 12 = .ok (.astore_n 3, 1) := dk_78 (dk_at dksX0_rightBy_0 12 rfl rfl)
theorem dX0_rightBy_13 : decode cX0_rightBy 13 = .ok (.iconst 1, 1) := dk_4 (dk_at dksX0_rightBy_0 13 rfl rfl)
theorem dX0_rightBy_14 : decode cX0_rightBy 14 = .ok (.ireturn, 1) := dk_172 (dk_at dksX0_rightBy_0 14 rfl rfl)
theorem dX0_rightBy_15 : decode cX0_rightBy 15 = .ok (.iconst 0, 1) := dk_3 (dk_at dksX0_rightBy_0 15 rfl rfl)
theorem dX0_rightBy_16 : decode cX0_rightBy 16 = .ok (.ireturn, 1) := dk_172 (dk_at dksX0_rightBy_0 16 rfl rfl)
abbrev cX0_rightWith : ByteArray := method_22_code
def yX0_rightWith : MethodName := ⟨RX0, "rightWith", "(LRoseProverbs;II[J)I"⟩
def dkwX0_rightWith_0 : List UInt8 := [45, 3, 42, 27, 28, 182, 0, 76, 133, 80, 167, 0, 7, 58, 4, 4, 172, 3, 172]
abbrev dktX0_rightWith_0 : List UInt8 := dkwX0_rightWith_0 ++ []
theorem dksX0_rightWith_0 : cX0_rightWith.data.toList.drop 0 = dktX0_rightWith_0 := by decide +kernel
theorem dX0_rightWith_0 : decode cX0_rightWith 0 = .ok (.aload_n 3, 1) := dk_45 (dk_at dksX0_rightWith_0 0 rfl rfl)
theorem dX0_rightWith_1 : decode cX0_rightWith 1 = .ok (.iconst 0, 1) := dk_3 (dk_at dksX0_rightWith_0 1 rfl rfl)
theorem dX0_rightWith_2 : decode cX0_rightWith 2 = .ok (.aload_n 0, 1) := dk_42 (dk_at dksX0_rightWith_0 2 rfl rfl)
theorem dX0_rightWith_3 : decode cX0_rightWith 3 = .ok (.iload_n 1, 1) := dk_27 (dk_at dksX0_rightWith_0 3 rfl rfl)
theorem dX0_rightWith_4 : decode cX0_rightWith 4 = .ok (.iload_n 2, 1) := dk_28 (dk_at dksX0_rightWith_0 4 rfl rfl)
theorem dX0_rightWith_5 : decode cX0_rightWith 5 = .ok (.invokevirtual 76, 3) := dk_182 0 76 (dk_at dksX0_rightWith_0 5 rfl rfl)
theorem dX0_rightWith_8 : decode cX0_rightWith 8 = .ok (.i2l, 1) := dk_133 (dk_at dksX0_rightWith_0 8 rfl rfl)
theorem dX0_rightWith_9 : decode cX0_rightWith 9 = .ok (.lastore, 1) := dk_80 (dk_at dksX0_rightWith_0 9 rfl rfl)
theorem dX0_rightWith_10 : decode cX0_rightWith 10 = .ok (.goto 7, 3) := dk_167 0 7 (dk_at dksX0_rightWith_0 10 rfl rfl)
theorem dX0_rightWith_13 : decode cX0_rightWith 13 = .ok (.astore 4, 2) := dk_58 4 (dk_at dksX0_rightWith_0 13 rfl rfl)
theorem dX0_rightWith_15 : decode cX0_rightWith 15 = .ok (.iconst 1, 1) := dk_4 (dk_at dksX0_rightWith_0 15 rfl rfl)
theorem dX0_rightWith_16 : decode cX0_rightWith 16 = .ok (.ireturn, 1) := dk_172 (dk_at dksX0_rightWith_0 16 rfl rfl)
theorem dX0_rightWith_17 : decode cX0_rightWith 17 = .ok (.iconst 0, 1) := dk_3 (dk_at dksX0_rightWith_0 17 rfl rfl)
theorem dX0_rightWith_18 : decode cX0_rightWith 18 = .ok (.ireturn, 1) := dk_172 (dk_at dksX0_rightWith_0 18 rfl rfl)
abbrev cX0_harmOf : ByteArray := method_23_code
def yX0_harmOf : MethodName := ⟨RX0, "harmOf", "(LRoseProverbs;I[J)I"⟩
def dkwX0_harmOf_0 : List UInt8 := [44, 3, 42, 27, 182, 0, 79, 133, 80, 167, 0, 6, 78, 4, 172, 3, 172]
abbrev dktX0_harmOf_0 : List UInt8 := dkwX0_harmOf_0 ++ []
theorem dksX0_harmOf_0 : cX0_harmOf.data.toList.drop 0 = dktX0_harmOf_0 := by decide +kernel
theorem dX0_harmOf_0 : decode cX0_harmOf 0 = .ok (.aload_n 2, 1) := dk_44 (dk_at dksX0_harmOf_0 0 rfl rfl)
theorem dX0_harmOf_1 : decode cX0_harmOf 1 = .ok (.iconst 0, 1) := dk_3 (dk_at dksX0_harmOf_0 1 rfl rfl)
theorem dX0_harmOf_2 : decode cX0_harmOf 2 = .ok (.aload_n 0, 1) := dk_42 (dk_at dksX0_harmOf_0 2 rfl rfl)
theorem dX0_harmOf_3 : decode cX0_harmOf 3 = .ok (.iload_n 1, 1) := dk_27 (dk_at dksX0_harmOf_0 3 rfl rfl)
theorem dX0_harmOf_4 : decode cX0_harmOf 4 = .ok (.invokevirtual 79, 3) := dk_182 0 79 (dk_at dksX0_harmOf_0 4 rfl rfl)
theorem dX0_harmOf_7 : decode cX0_harmOf 7 = .ok (.i2l, 1) := dk_133 (dk_at dksX0_harmOf_0 7 rfl rfl)
theorem dX0_harmOf_8 : decode cX0_harmOf 8 = .ok (.lastore, 1) := dk_80 (dk_at dksX0_harmOf_0 8 rfl rfl)
theorem dX0_harmOf_9 : decode cX0_harmOf 9 = .ok (.goto 6, 3) := dk_167 0 6 (dk_at dksX0_harmOf_0 9 rfl rfl)
theorem dX0_harmOf_12 : decode cX0_harmOf 12 = .ok (.astore_n 3, 1) := dk_78 (dk_at dksX0_harmOf_0 12 rfl rfl)
theorem dX0_harmOf_13 : decode cX0_harmOf 13 = .ok (.iconst 1, 1) := dk_4 (dk_at dksX0_harmOf_0 13 rfl rfl)
theorem dX0_harmOf_14 : decode cX0_harmOf 14 = .ok (.ireturn, 1) := dk_172 (dk_at dksX0_harmOf_0 14 rfl rfl)
theorem dX0_harmOf_15 : decode cX0_harmOf 15 = .ok (.iconst 0, 1) := dk_3 (dk_at dksX0_harmOf_0 15 rfl rfl)
theorem dX0_harmOf_16 : decode cX0_harmOf 16 = .ok (.ireturn, 1) := dk_172 (dk_at dksX0_harmOf_0 16 rfl rfl)
abbrev cX0_reachOf : ByteArray := method_24_code
def yX0_reachOf : MethodName := ⟨RX0, "reachOf", "(LRoseProverbs;I[J)I"⟩
def dkwX0_reachOf_0 : List UInt8 := [44, 3, 42, 27, 182, 0, 82, 133, 80, 167, 0, 6, 78, 4, 172, 3, 172]
abbrev dktX0_reachOf_0 : List UInt8 := dkwX0_reachOf_0 ++ []
theorem dksX0_reachOf_0 : cX0_reachOf.data.toList.drop 0 = dktX0_reachOf_0 := by decide +kernel
theorem dX0_reachOf_0 : decode cX0_reachOf 0 = .ok (.aload_n 2, 1) := dk_44 (dk_at dksX0_reachOf_0 0 rfl rfl)
theorem dX0_reachOf_1 : decode cX0_reachOf 1 = .ok (.iconst 0, 1) := dk_3 (dk_at dksX0_reachOf_0 1 rfl rfl)
theorem dX0_reachOf_2 : decode cX0_reachOf 2 = .ok (.aload_n 0, 1) := dk_42 (dk_at dksX0_reachOf_0 2 rfl rfl)
theorem dX0_reachOf_3 : decode cX0_reachOf 3 = .ok (.iload_n 1, 1) := dk_27 (dk_at dksX0_reachOf_0 3 rfl rfl)
theorem dX0_reachOf_4 : decode cX0_reachOf 4 = .ok (.invokevirtual 82, 3) := dk_182 0 82 (dk_at dksX0_reachOf_0 4 rfl rfl)
theorem dX0_reachOf_7 : decode cX0_reachOf 7 = .ok (.i2l, 1) := dk_133 (dk_at dksX0_reachOf_0 7 rfl rfl)
theorem dX0_reachOf_8 : decode cX0_reachOf 8 = .ok (.lastore, 1) := dk_80 (dk_at dksX0_reachOf_0 8 rfl rfl)
theorem dX0_reachOf_9 : decode cX0_reachOf 9 = .ok (.goto 6, 3) := dk_167 0 6 (dk_at dksX0_reachOf_0 9 rfl rfl)
theorem dX0_reachOf_12 : decode cX0_reachOf 12 = .ok (.astore_n 3, 1) := dk_78 (dk_at dksX0_reachOf_0 12 rfl rfl)
theorem dX0_reachOf_13 : decode cX0_reachOf 13 = .ok (.iconst 1, 1) := dk_4 (dk_at dksX0_reachOf_0 13 rfl rfl)
theorem dX0_reachOf_14 : decode cX0_reachOf 14 = .ok (.ireturn, 1) := dk_172 (dk_at dksX0_reachOf_0 14 rfl rfl)
theorem dX0_reachOf_15 : decode cX0_reachOf 15 = .ok (.iconst 0, 1) := dk_3 (dk_at dksX0_reachOf_0 15 rfl rfl)
theorem dX0_reachOf_16 : decode cX0_reachOf 16 = .ok (.ireturn, 1) := dk_172 (dk_at dksX0_reachOf_0 16 rfl rfl)
abbrev cX0_day : ByteArray := method_25_code
def yX0_day : MethodName := ⟨RX0, "day", "(LRoseProverbs;II[J)I"⟩
def dkwX0_day_1 : List UInt8 := [172, 3, 172]
abbrev dktX0_day_1 : List UInt8 := dkwX0_day_1 ++ []
def dkwX0_day_0 : List UInt8 := [45, 3, 42, 27, 28, 182, 0, 85, 133, 80, 167, 0, 15, 58, 4, 4, 172, 58, 4, 5, 172, 58, 4, 6]
abbrev dktX0_day_0 : List UInt8 := dkwX0_day_0 ++ dktX0_day_1
theorem dksX0_day_0 : cX0_day.data.toList.drop 0 = dktX0_day_0 := by decide +kernel
theorem dksX0_day_1 : cX0_day.data.toList.drop 24 = dktX0_day_1 := dk_seg dksX0_day_0 24 rfl rfl
theorem dX0_day_0 : decode cX0_day 0 = .ok (.aload_n 3, 1) := dk_45 (dk_at dksX0_day_0 0 rfl rfl)
theorem dX0_day_1 : decode cX0_day 1 = .ok (.iconst 0, 1) := dk_3 (dk_at dksX0_day_0 1 rfl rfl)
theorem dX0_day_2 : decode cX0_day 2 = .ok (.aload_n 0, 1) := dk_42 (dk_at dksX0_day_0 2 rfl rfl)
theorem dX0_day_3 : decode cX0_day 3 = .ok (.iload_n 1, 1) := dk_27 (dk_at dksX0_day_0 3 rfl rfl)
theorem dX0_day_4 : decode cX0_day 4 = .ok (.iload_n 2, 1) := dk_28 (dk_at dksX0_day_0 4 rfl rfl)
theorem dX0_day_5 : decode cX0_day 5 = .ok (.invokevirtual 85, 3) := dk_182 0 85 (dk_at dksX0_day_0 5 rfl rfl)
theorem dX0_day_8 : decode cX0_day 8 = .ok (.i2l, 1) := dk_133 (dk_at dksX0_day_0 8 rfl rfl)
theorem dX0_day_9 : decode cX0_day 9 = .ok (.lastore, 1) := dk_80 (dk_at dksX0_day_0 9 rfl rfl)
theorem dX0_day_10 : decode cX0_day 10 = .ok (.goto 15, 3) := dk_167 0 15 (dk_at dksX0_day_0 10 rfl rfl)
theorem dX0_day_13 : decode cX0_day 13 = .ok (.astore 4, 2) := dk_58 4 (dk_at dksX0_day_0 13 rfl rfl)
theorem dX0_day_15 : decode cX0_day 15 = .ok (.iconst 1, 1) := dk_4 (dk_at dksX0_day_0 15 rfl rfl)
theorem dX0_day_16 : decode cX0_day 16 = .ok (.ireturn, 1) := dk_172 (dk_at dksX0_day_0 16 rfl rfl)
theorem dX0_day_17 : decode cX0_day 17 = .ok (.astore 4, 2) := dk_58 4 (dk_at dksX0_day_0 17 rfl rfl)
theorem dX0_day_19 : decode cX0_day 19 = .ok (.iconst 2, 1) := dk_5 (dk_at dksX0_day_0 19 rfl rfl)
theorem dX0_day_20 : decode cX0_day 20 = .ok (.ireturn, 1) := dk_172 (dk_at dksX0_day_0 20 rfl rfl)
theorem dX0_day_21 : decode cX0_day 21 = .ok (.astore 4, 2) := dk_58 4 (dk_at dksX0_day_0 21 rfl rfl)
theorem dX0_day_23 : decode cX0_day 23 = .ok (.iconst 3, 1) := dk_6 (dk_at dksX0_day_0 23 rfl rfl)
theorem dX0_day_24 : decode cX0_day 24 = .ok (.ireturn, 1) := dk_172 (dk_at dksX0_day_1 0 rfl rfl)
theorem dX0_day_25 : decode cX0_day 25 = .ok (.iconst 0, 1) := dk_3 (dk_at dksX0_day_1 1 rfl rfl)
theorem dX0_day_26 : decode cX0_day 26 = .ok (.ireturn, 1) := dk_172 (dk_at dksX0_day_1 2 rfl rfl)
abbrev cX0_proverbNew : ByteArray := method_26_code
def yX0_proverbNew : MethodName := ⟨RX0, "proverbNew", "(LRoseProverbs;IIIIII[J)I"⟩
def dkwX0_proverbNew_1 : List UInt8 := [172, 58, 8, 5, 172, 58, 8, 6, 172, 3, 172]
abbrev dktX0_proverbNew_1 : List UInt8 := dkwX0_proverbNew_1 ++ []
def dkwX0_proverbNew_0 : List UInt8 := [25, 7, 3, 42, 27, 28, 29, 21, 4, 21, 5, 21, 6, 182, 0, 90, 133, 80, 167, 0, 15, 58, 8, 4]
abbrev dktX0_proverbNew_0 : List UInt8 := dkwX0_proverbNew_0 ++ dktX0_proverbNew_1
theorem dksX0_proverbNew_0 : cX0_proverbNew.data.toList.drop 0 = dktX0_proverbNew_0 := by decide +kernel
theorem dksX0_proverbNew_1 : cX0_proverbNew.data.toList.drop 24 = dktX0_proverbNew_1 := dk_seg dksX0_proverbNew_0 24 rfl rfl
theorem dX0_proverbNew_0 : decode cX0_proverbNew 0 = .ok (.aload 7, 2) := dk_25 7 (dk_at dksX0_proverbNew_0 0 rfl rfl)
theorem dX0_proverbNew_2 : decode cX0_proverbNew 2 = .ok (.iconst 0, 1) := dk_3 (dk_at dksX0_proverbNew_0 2 rfl rfl)
theorem dX0_proverbNew_3 : decode cX0_proverbNew 3 = .ok (.aload_n 0, 1) := dk_42 (dk_at dksX0_proverbNew_0 3 rfl rfl)
theorem dX0_proverbNew_4 : decode cX0_proverbNew 4 = .ok (.iload_n 1, 1) := dk_27 (dk_at dksX0_proverbNew_0 4 rfl rfl)
theorem dX0_proverbNew_5 : decode cX0_proverbNew 5 = .ok (.iload_n 2, 1) := dk_28 (dk_at dksX0_proverbNew_0 5 rfl rfl)
theorem dX0_proverbNew_6 : decode cX0_proverbNew 6 = .ok (.iload_n 3, 1) := dk_29 (dk_at dksX0_proverbNew_0 6 rfl rfl)
theorem dX0_proverbNew_7 : decode cX0_proverbNew 7 = .ok (.iload 4, 2) := dk_21 4 (dk_at dksX0_proverbNew_0 7 rfl rfl)
theorem dX0_proverbNew_9 : decode cX0_proverbNew 9 = .ok (.iload 5, 2) := dk_21 5 (dk_at dksX0_proverbNew_0 9 rfl rfl)
theorem dX0_proverbNew_11 : decode cX0_proverbNew 11 = .ok (.iload 6, 2) := dk_21 6 (dk_at dksX0_proverbNew_0 11 rfl rfl)
theorem dX0_proverbNew_13 : decode cX0_proverbNew 13 = .ok (.invokevirtual 90, 3) := dk_182 0 90 (dk_at dksX0_proverbNew_0 13 rfl rfl)
theorem dX0_proverbNew_16 : decode cX0_proverbNew 16 = .ok (.i2l, 1) := dk_133 (dk_at dksX0_proverbNew_0 16 rfl rfl)
theorem dX0_proverbNew_17 : decode cX0_proverbNew 17 = .ok (.lastore, 1) := dk_80 (dk_at dksX0_proverbNew_0 17 rfl rfl)
theorem dX0_proverbNew_18 : decode cX0_proverbNew 18 = .ok (.goto 15, 3) := dk_167 0 15 (dk_at dksX0_proverbNew_0 18 rfl rfl)
theorem dX0_proverbNew_21 : decode cX0_proverbNew 21 = .ok (.astore 8, 2) := dk_58 8 (dk_at dksX0_proverbNew_0 21 rfl rfl)
theorem dX0_proverbNew_23 : decode cX0_proverbNew 23 = .ok (.iconst 1, 1) := dk_4 (dk_at dksX0_proverbNew_0 23 rfl rfl)
theorem dX0_proverbNew_24 : decode cX0_proverbNew 24 = .ok (.ireturn, 1) := dk_172 (dk_at dksX0_proverbNew_1 0 rfl rfl)
theorem dX0_proverbNew_25 : decode cX0_proverbNew 25 = .ok (.astore 8, 2) := dk_58 8 (dk_at dksX0_proverbNew_1 1 rfl rfl)
theorem dX0_proverbNew_27 : decode cX0_proverbNew 27 = .ok (.iconst 2, 1) := dk_5 (dk_at dksX0_proverbNew_1 3 rfl rfl)
theorem dX0_proverbNew_28 : decode cX0_proverbNew 28 = .ok (.ireturn, 1) := dk_172 (dk_at dksX0_proverbNew_1 4 rfl rfl)
theorem dX0_proverbNew_29 : decode cX0_proverbNew 29 = .ok (.astore 8, 2) := dk_58 8 (dk_at dksX0_proverbNew_1 5 rfl rfl)
theorem dX0_proverbNew_31 : decode cX0_proverbNew 31 = .ok (.iconst 3, 1) := dk_6 (dk_at dksX0_proverbNew_1 7 rfl rfl)
theorem dX0_proverbNew_32 : decode cX0_proverbNew 32 = .ok (.ireturn, 1) := dk_172 (dk_at dksX0_proverbNew_1 8 rfl rfl)
theorem dX0_proverbNew_33 : decode cX0_proverbNew 33 = .ok (.iconst 0, 1) := dk_3 (dk_at dksX0_proverbNew_1 9 rfl rfl)
theorem dX0_proverbNew_34 : decode cX0_proverbNew 34 = .ok (.ireturn, 1) := dk_172 (dk_at dksX0_proverbNew_1 10 rfl rfl)
abbrev cX0_forget : ByteArray := method_27_code
def yX0_forget : MethodName := ⟨RX0, "forget", "(LRoseProverbs;I[J)I"⟩
def dkwX0_forget_0 : List UInt8 := [44, 3, 42, 27, 182, 0, 94, 133, 80, 167, 0, 9, 78, 4, 172, 78, 5, 172, 3, 172]
abbrev dktX0_forget_0 : List UInt8 := dkwX0_forget_0 ++ []
theorem dksX0_forget_0 : cX0_forget.data.toList.drop 0 = dktX0_forget_0 := by decide +kernel
theorem dX0_forget_0 : decode cX0_forget 0 = .ok (.aload_n 2, 1) := dk_44 (dk_at dksX0_forget_0 0 rfl rfl)
theorem dX0_forget_1 : decode cX0_forget 1 = .ok (.iconst 0, 1) := dk_3 (dk_at dksX0_forget_0 1 rfl rfl)
theorem dX0_forget_2 : decode cX0_forget 2 = .ok (.aload_n 0, 1) := dk_42 (dk_at dksX0_forget_0 2 rfl rfl)
theorem dX0_forget_3 : decode cX0_forget 3 = .ok (.iload_n 1, 1) := dk_27 (dk_at dksX0_forget_0 3 rfl rfl)
theorem dX0_forget_4 : decode cX0_forget 4 = .ok (.invokevirtual 94, 3) := dk_182 0 94 (dk_at dksX0_forget_0 4 rfl rfl)
theorem dX0_forget_7 : decode cX0_forget 7 = .ok (.i2l, 1) := dk_133 (dk_at dksX0_forget_0 7 rfl rfl)
theorem dX0_forget_8 : decode cX0_forget 8 = .ok (.lastore, 1) := dk_80 (dk_at dksX0_forget_0 8 rfl rfl)
theorem dX0_forget_9 : decode cX0_forget 9 = .ok (.goto 9, 3) := dk_167 0 9 (dk_at dksX0_forget_0 9 rfl rfl)
theorem dX0_forget_12 : decode cX0_forget 12 = .ok (.astore_n 3, 1) := dk_78 (dk_at dksX0_forget_0 12 rfl rfl)
theorem dX0_forget_13 : decode cX0_forget 13 = .ok (.iconst 1, 1) := dk_4 (dk_at dksX0_forget_0 13 rfl rfl)
theorem dX0_forget_14 : decode cX0_forget 14 = .ok (.ireturn, 1) := dk_172 (dk_at dksX0_forget_0 14 rfl rfl)
theorem dX0_forget_15 : decode cX0_forget 15 = .ok (.astore_n 3, 1) := dk_78 (dk_at dksX0_forget_0 15 rfl rfl)
theorem dX0_forget_16 : decode cX0_forget 16 = .ok (.iconst 2, 1) := dk_5 (dk_at dksX0_forget_0 16 rfl rfl)
theorem dX0_forget_17 : decode cX0_forget 17 = .ok (.ireturn, 1) := dk_172 (dk_at dksX0_forget_0 17 rfl rfl)
theorem dX0_forget_18 : decode cX0_forget 18 = .ok (.iconst 0, 1) := dk_3 (dk_at dksX0_forget_0 18 rfl rfl)
theorem dX0_forget_19 : decode cX0_forget 19 = .ok (.ireturn, 1) := dk_172 (dk_at dksX0_forget_0 19 rfl rfl)
abbrev cX0_weigh : ByteArray := method_28_code
def yX0_weigh : MethodName := ⟨RX0, "weigh", "(LRoseProverbs;II[J)I"⟩
def dkwX0_weigh_0 : List UInt8 := [45, 3, 42, 27, 28, 182, 0, 97, 133, 80, 167, 0, 11, 58, 4, 4, 172, 58, 4, 5, 172, 3, 172]
abbrev dktX0_weigh_0 : List UInt8 := dkwX0_weigh_0 ++ []
theorem dksX0_weigh_0 : cX0_weigh.data.toList.drop 0 = dktX0_weigh_0 := by decide +kernel
theorem dX0_weigh_0 : decode cX0_weigh 0 = .ok (.aload_n 3, 1) := dk_45 (dk_at dksX0_weigh_0 0 rfl rfl)
theorem dX0_weigh_1 : decode cX0_weigh 1 = .ok (.iconst 0, 1) := dk_3 (dk_at dksX0_weigh_0 1 rfl rfl)
theorem dX0_weigh_2 : decode cX0_weigh 2 = .ok (.aload_n 0, 1) := dk_42 (dk_at dksX0_weigh_0 2 rfl rfl)
theorem dX0_weigh_3 : decode cX0_weigh 3 = .ok (.iload_n 1, 1) := dk_27 (dk_at dksX0_weigh_0 3 rfl rfl)
theorem dX0_weigh_4 : decode cX0_weigh 4 = .ok (.iload_n 2, 1) := dk_28 (dk_at dksX0_weigh_0 4 rfl rfl)
theorem dX0_weigh_5 : decode cX0_weigh 5 = .ok (.invokevirtual 97, 3) := dk_182 0 97 (dk_at dksX0_weigh_0 5 rfl rfl)
theorem dX0_weigh_8 : decode cX0_weigh 8 = .ok (.i2l, 1) := dk_133 (dk_at dksX0_weigh_0 8 rfl rfl)
theorem dX0_weigh_9 : decode cX0_weigh 9 = .ok (.lastore, 1) := dk_80 (dk_at dksX0_weigh_0 9 rfl rfl)
theorem dX0_weigh_10 : decode cX0_weigh 10 = .ok (.goto 11, 3) := dk_167 0 11 (dk_at dksX0_weigh_0 10 rfl rfl)
theorem dX0_weigh_13 : decode cX0_weigh 13 = .ok (.astore 4, 2) := dk_58 4 (dk_at dksX0_weigh_0 13 rfl rfl)
theorem dX0_weigh_15 : decode cX0_weigh 15 = .ok (.iconst 1, 1) := dk_4 (dk_at dksX0_weigh_0 15 rfl rfl)
theorem dX0_weigh_16 : decode cX0_weigh 16 = .ok (.ireturn, 1) := dk_172 (dk_at dksX0_weigh_0 16 rfl rfl)
theorem dX0_weigh_17 : decode cX0_weigh 17 = .ok (.astore 4, 2) := dk_58 4 (dk_at dksX0_weigh_0 17 rfl rfl)
theorem dX0_weigh_19 : decode cX0_weigh 19 = .ok (.iconst 2, 1) := dk_5 (dk_at dksX0_weigh_0 19 rfl rfl)
theorem dX0_weigh_20 : decode cX0_weigh 20 = .ok (.ireturn, 1) := dk_172 (dk_at dksX0_weigh_0 20 rfl rfl)
theorem dX0_weigh_21 : decode cX0_weigh 21 = .ok (.iconst 0, 1) := dk_3 (dk_at dksX0_weigh_0 21 rfl rfl)
theorem dX0_weigh_22 : decode cX0_weigh 22 = .ok (.ireturn, 1) := dk_172 (dk_at dksX0_weigh_0 22 rfl rfl)
abbrev cX0_set : ByteArray := method_29_code
def yX0_set : MethodName := ⟨RX0, "set", "(LRoseProverbs;II[J)I"⟩
def dkwX0_set_0 : List UInt8 := [45, 3, 42, 27, 28, 182, 0, 100, 133, 80, 167, 0, 7, 58, 4, 4, 172, 3, 172]
abbrev dktX0_set_0 : List UInt8 := dkwX0_set_0 ++ []
theorem dksX0_set_0 : cX0_set.data.toList.drop 0 = dktX0_set_0 := by decide +kernel
theorem dX0_set_0 : decode cX0_set 0 = .ok (.aload_n 3, 1) := dk_45 (dk_at dksX0_set_0 0 rfl rfl)
theorem dX0_set_1 : decode cX0_set 1 = .ok (.iconst 0, 1) := dk_3 (dk_at dksX0_set_0 1 rfl rfl)
theorem dX0_set_2 : decode cX0_set 2 = .ok (.aload_n 0, 1) := dk_42 (dk_at dksX0_set_0 2 rfl rfl)
theorem dX0_set_3 : decode cX0_set 3 = .ok (.iload_n 1, 1) := dk_27 (dk_at dksX0_set_0 3 rfl rfl)
theorem dX0_set_4 : decode cX0_set 4 = .ok (.iload_n 2, 1) := dk_28 (dk_at dksX0_set_0 4 rfl rfl)
theorem dX0_set_5 : decode cX0_set 5 = .ok (.invokevirtual 100, 3) := dk_182 0 100 (dk_at dksX0_set_0 5 rfl rfl)
theorem dX0_set_8 : decode cX0_set 8 = .ok (.i2l, 1) := dk_133 (dk_at dksX0_set_0 8 rfl rfl)
theorem dX0_set_9 : decode cX0_set 9 = .ok (.lastore, 1) := dk_80 (dk_at dksX0_set_0 9 rfl rfl)
theorem dX0_set_10 : decode cX0_set 10 = .ok (.goto 7, 3) := dk_167 0 7 (dk_at dksX0_set_0 10 rfl rfl)
theorem dX0_set_13 : decode cX0_set 13 = .ok (.astore 4, 2) := dk_58 4 (dk_at dksX0_set_0 13 rfl rfl)
theorem dX0_set_15 : decode cX0_set 15 = .ok (.iconst 1, 1) := dk_4 (dk_at dksX0_set_0 15 rfl rfl)
theorem dX0_set_16 : decode cX0_set 16 = .ok (.ireturn, 1) := dk_172 (dk_at dksX0_set_0 16 rfl rfl)
theorem dX0_set_17 : decode cX0_set 17 = .ok (.iconst 0, 1) := dk_3 (dk_at dksX0_set_0 17 rfl rfl)
theorem dX0_set_18 : decode cX0_set 18 = .ok (.ireturn, 1) := dk_172 (dk_at dksX0_set_0 18 rfl rfl)
abbrev cX0_undo : ByteArray := method_30_code
def yX0_undo : MethodName := ⟨RX0, "undo", "(LRoseProverbs;[J)I"⟩
def dkwX0_undo_0 : List UInt8 := [43, 3, 42, 182, 0, 103, 133, 80, 167, 0, 6, 77, 4, 172, 3, 172]
abbrev dktX0_undo_0 : List UInt8 := dkwX0_undo_0 ++ []
theorem dksX0_undo_0 : cX0_undo.data.toList.drop 0 = dktX0_undo_0 := by decide +kernel
theorem dX0_undo_0 : decode cX0_undo 0 = .ok (.aload_n 1, 1) := dk_43 (dk_at dksX0_undo_0 0 rfl rfl)
theorem dX0_undo_1 : decode cX0_undo 1 = .ok (.iconst 0, 1) := dk_3 (dk_at dksX0_undo_0 1 rfl rfl)
theorem dX0_undo_2 : decode cX0_undo 2 = .ok (.aload_n 0, 1) := dk_42 (dk_at dksX0_undo_0 2 rfl rfl)
theorem dX0_undo_3 : decode cX0_undo 3 = .ok (.invokevirtual 103, 3) := dk_182 0 103 (dk_at dksX0_undo_0 3 rfl rfl)
theorem dX0_undo_6 : decode cX0_undo 6 = .ok (.i2l, 1) := dk_133 (dk_at dksX0_undo_0 6 rfl rfl)
theorem dX0_undo_7 : decode cX0_undo 7 = .ok (.lastore, 1) := dk_80 (dk_at dksX0_undo_0 7 rfl rfl)
theorem dX0_undo_8 : decode cX0_undo 8 = .ok (.goto 6, 3) := dk_167 0 6 (dk_at dksX0_undo_0 8 rfl rfl)
theorem dX0_undo_11 : decode cX0_undo 11 = .ok (.astore_n 2, 1) := dk_77 (dk_at dksX0_undo_0 11 rfl rfl)
theorem dX0_undo_12 : decode cX0_undo 12 = .ok (.iconst 1, 1) := dk_4 (dk_at dksX0_undo_0 12 rfl rfl)
theorem dX0_undo_13 : decode cX0_undo 13 = .ok (.ireturn, 1) := dk_172 (dk_at dksX0_undo_0 13 rfl rfl)
theorem dX0_undo_14 : decode cX0_undo 14 = .ok (.iconst 0, 1) := dk_3 (dk_at dksX0_undo_0 14 rfl rfl)
theorem dX0_undo_15 : decode cX0_undo 15 = .ok (.ireturn, 1) := dk_172 (dk_at dksX0_undo_0 15 rfl rfl)
abbrev cX0_printMonth : ByteArray := method_31_code
def yX0_printMonth : MethodName := ⟨RX0, "printMonth", "(LRoseProverbs;I[J)I"⟩
def dkwX0_printMonth_0 : List UInt8 := [44, 3, 42, 27, 182, 0, 109, 133, 80, 167, 0, 6, 78, 4, 172, 3, 172]
abbrev dktX0_printMonth_0 : List UInt8 := dkwX0_printMonth_0 ++ []
theorem dksX0_printMonth_0 : cX0_printMonth.data.toList.drop 0 = dktX0_printMonth_0 := by decide +kernel
theorem dX0_printMonth_0 : decode cX0_printMonth 0 = .ok (.aload_n 2, 1) := dk_44 (dk_at dksX0_printMonth_0 0 rfl rfl)
theorem dX0_printMonth_1 : decode cX0_printMonth 1 = .ok (.iconst 0, 1) := dk_3 (dk_at dksX0_printMonth_0 1 rfl rfl)
theorem dX0_printMonth_2 : decode cX0_printMonth 2 = .ok (.aload_n 0, 1) := dk_42 (dk_at dksX0_printMonth_0 2 rfl rfl)
theorem dX0_printMonth_3 : decode cX0_printMonth 3 = .ok (.iload_n 1, 1) := dk_27 (dk_at dksX0_printMonth_0 3 rfl rfl)
theorem dX0_printMonth_4 : decode cX0_printMonth 4 = .ok (.invokevirtual 109, 3) := dk_182 0 109 (dk_at dksX0_printMonth_0 4 rfl rfl)
theorem dX0_printMonth_7 : decode cX0_printMonth 7 = .ok (.i2l, 1) := dk_133 (dk_at dksX0_printMonth_0 7 rfl rfl)
theorem dX0_printMonth_8 : decode cX0_printMonth 8 = .ok (.lastore, 1) := dk_80 (dk_at dksX0_printMonth_0 8 rfl rfl)
theorem dX0_printMonth_9 : decode cX0_printMonth 9 = .ok (.goto 6, 3) := dk_167 0 6 (dk_at dksX0_printMonth_0 9 rfl rfl)
theorem dX0_printMonth_12 : decode cX0_printMonth 12 = .ok (.astore_n 3, 1) := dk_78 (dk_at dksX0_printMonth_0 12 rfl rfl)
theorem dX0_printMonth_13 : decode cX0_printMonth 13 = .ok (.iconst 1, 1) := dk_4 (dk_at dksX0_printMonth_0 13 rfl rfl)
theorem dX0_printMonth_14 : decode cX0_printMonth 14 = .ok (.ireturn, 1) := dk_172 (dk_at dksX0_printMonth_0 14 rfl rfl)
theorem dX0_printMonth_15 : decode cX0_printMonth 15 = .ok (.iconst 0, 1) := dk_3 (dk_at dksX0_printMonth_0 15 rfl rfl)
theorem dX0_printMonth_16 : decode cX0_printMonth 16 = .ok (.ireturn, 1) := dk_172 (dk_at dksX0_printMonth_0 16 rfl rfl)
abbrev cX0_printProverb : ByteArray := method_32_code
def yX0_printProverb : MethodName := ⟨RX0, "printProverb", "(LRoseProverbs;I[J)I"⟩
def dkwX0_printProverb_0 : List UInt8 := [44, 3, 42, 27, 182, 0, 112, 133, 80, 167, 0, 6, 78, 4, 172, 3, 172]
abbrev dktX0_printProverb_0 : List UInt8 := dkwX0_printProverb_0 ++ []
theorem dksX0_printProverb_0 : cX0_printProverb.data.toList.drop 0 = dktX0_printProverb_0 := by decide +kernel
theorem dX0_printProverb_0 : decode cX0_printProverb 0 = .ok (.aload_n 2, 1) := dk_44 (dk_at dksX0_printProverb_0 0 rfl rfl)
theorem dX0_printProverb_1 : decode cX0_printProverb 1 = .ok (.iconst 0, 1) := dk_3 (dk_at dksX0_printProverb_0 1 rfl rfl)
theorem dX0_printProverb_2 : decode cX0_printProverb 2 = .ok (.aload_n 0, 1) := dk_42 (dk_at dksX0_printProverb_0 2 rfl rfl)
theorem dX0_printProverb_3 : decode cX0_printProverb 3 = .ok (.iload_n 1, 1) := dk_27 (dk_at dksX0_printProverb_0 3 rfl rfl)
theorem dX0_printProverb_4 : decode cX0_printProverb 4 = .ok (.invokevirtual 112, 3) := dk_182 0 112 (dk_at dksX0_printProverb_0 4 rfl rfl)
theorem dX0_printProverb_7 : decode cX0_printProverb 7 = .ok (.i2l, 1) := dk_133 (dk_at dksX0_printProverb_0 7 rfl rfl)
theorem dX0_printProverb_8 : decode cX0_printProverb 8 = .ok (.lastore, 1) := dk_80 (dk_at dksX0_printProverb_0 8 rfl rfl)
theorem dX0_printProverb_9 : decode cX0_printProverb 9 = .ok (.goto 6, 3) := dk_167 0 6 (dk_at dksX0_printProverb_0 9 rfl rfl)
theorem dX0_printProverb_12 : decode cX0_printProverb 12 = .ok (.astore_n 3, 1) := dk_78 (dk_at dksX0_printProverb_0 12 rfl rfl)
theorem dX0_printProverb_13 : decode cX0_printProverb 13 = .ok (.iconst 1, 1) := dk_4 (dk_at dksX0_printProverb_0 13 rfl rfl)
theorem dX0_printProverb_14 : decode cX0_printProverb 14 = .ok (.ireturn, 1) := dk_172 (dk_at dksX0_printProverb_0 14 rfl rfl)
theorem dX0_printProverb_15 : decode cX0_printProverb 15 = .ok (.iconst 0, 1) := dk_3 (dk_at dksX0_printProverb_0 15 rfl rfl)
theorem dX0_printProverb_16 : decode cX0_printProverb 16 = .ok (.ireturn, 1) := dk_172 (dk_at dksX0_printProverb_0 16 rfl rfl)
abbrev cX0_restoreState : ByteArray := method_33_code
def yX0_restoreState : MethodName := ⟨RX0, "restoreState", "(LRoseProverbs;[J)I"⟩
def dkwX0_restoreState_0 : List UInt8 := [43, 3, 42, 182, 0, 115, 133, 80, 167, 0, 6, 77, 4, 172, 3, 172]
abbrev dktX0_restoreState_0 : List UInt8 := dkwX0_restoreState_0 ++ []
theorem dksX0_restoreState_0 : cX0_restoreState.data.toList.drop 0 = dktX0_restoreState_0 := by decide +kernel
theorem dX0_restoreState_0 : decode cX0_restoreState 0 = .ok (.aload_n 1, 1) := dk_43 (dk_at dksX0_restoreState_0 0 rfl rfl)
theorem dX0_restoreState_1 : decode cX0_restoreState 1 = .ok (.iconst 0, 1) := dk_3 (dk_at dksX0_restoreState_0 1 rfl rfl)
theorem dX0_restoreState_2 : decode cX0_restoreState 2 = .ok (.aload_n 0, 1) := dk_42 (dk_at dksX0_restoreState_0 2 rfl rfl)
theorem dX0_restoreState_3 : decode cX0_restoreState 3 = .ok (.invokevirtual 115, 3) := dk_182 0 115 (dk_at dksX0_restoreState_0 3 rfl rfl)
theorem dX0_restoreState_6 : decode cX0_restoreState 6 = .ok (.i2l, 1) := dk_133 (dk_at dksX0_restoreState_0 6 rfl rfl)
theorem dX0_restoreState_7 : decode cX0_restoreState 7 = .ok (.lastore, 1) := dk_80 (dk_at dksX0_restoreState_0 7 rfl rfl)
theorem dX0_restoreState_8 : decode cX0_restoreState 8 = .ok (.goto 6, 3) := dk_167 0 6 (dk_at dksX0_restoreState_0 8 rfl rfl)
theorem dX0_restoreState_11 : decode cX0_restoreState 11 = .ok (.astore_n 2, 1) := dk_77 (dk_at dksX0_restoreState_0 11 rfl rfl)
theorem dX0_restoreState_12 : decode cX0_restoreState 12 = .ok (.iconst 1, 1) := dk_4 (dk_at dksX0_restoreState_0 12 rfl rfl)
theorem dX0_restoreState_13 : decode cX0_restoreState 13 = .ok (.ireturn, 1) := dk_172 (dk_at dksX0_restoreState_0 13 rfl rfl)
theorem dX0_restoreState_14 : decode cX0_restoreState 14 = .ok (.iconst 0, 1) := dk_3 (dk_at dksX0_restoreState_0 14 rfl rfl)
theorem dX0_restoreState_15 : decode cX0_restoreState 15 = .ok (.ireturn, 1) := dk_172 (dk_at dksX0_restoreState_0 15 rfl rfl)
theorem q132 : (Jvm.Cond.initialized "RoseProverbsLaw") ∈ lw_all := lw_g (lw_at lw_m1 0 rfl) rfl
theorem q199 : (Jvm.Cond.classLink "RoseProverbsLaw" (8 : Nat) "RoseProverbs") ∈ lw_all := lw_g (lw_at lw_m1 67 rfl) rfl
theorem q201 : (Jvm.Cond.methodLink "RoseProverbsLaw" (118 : Nat) ({ cls := "RoseProverbs", name := "<init>", desc := "()V" } : Jvm.MethodName)) ∈ lw_all := lw_g (lw_at lw_m1 69 rfl) rfl
theorem q1233 : (Jvm.Cond.methodLink "RoseProverbsLaw" (122 : Nat) ({ cls := "RoseProverbs", name := "appendInput", desc := "(IIIII)I" } : Jvm.MethodName)) ∈ lw_all := lw_g (lw_at lw_m5 141 rfl) rfl
theorem q1241 : (Jvm.Cond.methodLink "RoseProverbsLaw" (127 : Nat) ({ cls := "RoseProverbs", name := "truncateInput", desc := "(I)Z" } : Jvm.MethodName)) ∈ lw_all := lw_g (lw_at lw_m5 149 rfl) rfl
theorem q1248 : (Jvm.Cond.methodLink "RoseProverbsLaw" (132 : Nat) ({ cls := "RoseProverbs", name := "loadRose", desc := "()I" } : Jvm.MethodName)) ∈ lw_all := lw_g (lw_at lw_m5 156 rfl) rfl
theorem q1625 : (Jvm.Cond.methodLink "RoseProverbsLaw" (136 : Nat) ({ cls := "RoseProverbs", name := "playScript", desc := "()I" } : Jvm.MethodName)) ∈ lw_all := lw_g (lw_at lw_m7 53 rfl) rfl
theorem q2023 : (Jvm.Cond.methodLink "RoseProverbsLaw" (140 : Nat) ({ cls := "RoseProverbs", name := "errorCode", desc := "()I" } : Jvm.MethodName)) ∈ lw_all := lw_g (lw_at lw_m8 211 rfl) rfl
theorem q2027 : (Jvm.Cond.methodLink "RoseProverbsLaw" (144 : Nat) ({ cls := "RoseProverbs", name := "errorOffset", desc := "()I" } : Jvm.MethodName)) ∈ lw_all := lw_g (lw_at lw_m8 215 rfl) rfl
theorem q2031 : (Jvm.Cond.methodLink "RoseProverbsLaw" (199 : Nat) ({ cls := "RoseProverbs", name := "byWeight", desc := "(I)I" } : Jvm.MethodName)) ∈ lw_all := lw_g (lw_at lw_m8 219 rfl) rfl
theorem q2399 : (Jvm.Cond.methodLink "RoseProverbsLaw" (218 : Nat) ({ cls := "RoseProverbs", name := "bestRule", desc := "()I" } : Jvm.MethodName)) ∈ lw_all := lw_g (lw_at lw_m10 107 rfl) rfl
theorem q2428 : (Jvm.Cond.methodLink "RoseProverbsLaw" (231 : Nat) ({ cls := "RoseProverbs", name := "agree", desc := "()Z" } : Jvm.MethodName)) ∈ lw_all := lw_g (lw_at lw_m10 136 rfl) rfl
theorem q2461 : (Jvm.Cond.methodLink "RoseProverbsLaw" (236 : Nat) ({ cls := "RoseProverbs", name := "truth", desc := "()D" } : Jvm.MethodName)) ∈ lw_all := lw_g (lw_at lw_m10 169 rfl) rfl
theorem q2465 : (Jvm.Cond.methodLink "RoseProverbsLaw" (241 : Nat) ({ cls := "RoseProverbs", name := "meanWeight", desc := "()F" } : Jvm.MethodName)) ∈ lw_all := lw_g (lw_at lw_m10 173 rfl) rfl
theorem q2484 : (Jvm.Cond.methodLink "RoseProverbsLaw" (272 : Nat) ({ cls := "RoseProverbs", name := "outputByte", desc := "(I)I" } : Jvm.MethodName)) ∈ lw_all := lw_g (lw_at lw_m10 192 rfl) rfl
theorem q2499 : (Jvm.Cond.methodLink "RoseProverbsLaw" (276 : Nat) ({ cls := "RoseProverbs", name := "saveState", desc := "()I" } : Jvm.MethodName)) ∈ lw_all := lw_g (lw_at lw_m10 207 rfl) rfl
theorem q2503 : (Jvm.Cond.methodLink "RoseProverbsLaw" (148 : Nat) ({ cls := "RoseProverbsLaw", name := "count", desc := "(LRoseProverbs;I[J)I" } : Jvm.MethodName)) ∈ lw_all := lw_g (lw_at lw_m10 211 rfl) rfl
theorem q2504 : (Jvm.Cond.static ({ cls := "RoseProverbsLaw", name := "count", desc := "(LRoseProverbs;I[J)I" } : Jvm.MethodName)) ∈ lw_all := lw_g (lw_at lw_m10 212 rfl) rfl
theorem q2505 : (Jvm.Cond.codeWith ({ cls := "RoseProverbsLaw", name := "count", desc := "(LRoseProverbs;I[J)I" } : Jvm.MethodName) method_3_code (4 : Nat) (Option.some Jvm.ClassFile.FieldType.int) [((0 : Nat), (9 : Nat), (12 : Nat), (13 : Nat))]) ∈ lw_all := lw_g (lw_at lw_m10 213 rfl) rfl
theorem q2506 : (Jvm.Cond.classLink "RoseProverbsLaw" (13 : Nat) "java/lang/IllegalArgumentException") ∈ lw_all := lw_g (lw_at lw_m10 214 rfl) rfl
theorem q2507 : (Jvm.Cond.methodLink "RoseProverbsLaw" (7 : Nat) ({ cls := "RoseProverbs", name := "count", desc := "(I)I" } : Jvm.MethodName)) ∈ lw_all := lw_g (lw_at lw_m10 215 rfl) rfl
theorem q2537 : (Jvm.Cond.methodLink "RoseProverbsLaw" (157 : Nat) ({ cls := "RoseProverbsLaw", name := "account", desc := "(LRoseProverbs;I[J)I" } : Jvm.MethodName)) ∈ lw_all := lw_g (lw_at lw_m11 5 rfl) rfl
theorem q2538 : (Jvm.Cond.static ({ cls := "RoseProverbsLaw", name := "account", desc := "(LRoseProverbs;I[J)I" } : Jvm.MethodName)) ∈ lw_all := lw_g (lw_at lw_m11 6 rfl) rfl
theorem q2539 : (Jvm.Cond.codeWith ({ cls := "RoseProverbsLaw", name := "account", desc := "(LRoseProverbs;I[J)I" } : Jvm.MethodName) method_4_code (4 : Nat) (Option.some Jvm.ClassFile.FieldType.int) [((0 : Nat), (9 : Nat), (12 : Nat), (13 : Nat))]) ∈ lw_all := lw_g (lw_at lw_m11 7 rfl) rfl
theorem q2540 : (Jvm.Cond.methodLink "RoseProverbsLaw" (15 : Nat) ({ cls := "RoseProverbs", name := "account", desc := "(I)I" } : Jvm.MethodName)) ∈ lw_all := lw_g (lw_at lw_m11 8 rfl) rfl
theorem q2548 : (Jvm.Cond.methodLink "RoseProverbsLaw" (160 : Nat) ({ cls := "RoseProverbsLaw", name := "proverb", desc := "(LRoseProverbs;II[J)I" } : Jvm.MethodName)) ∈ lw_all := lw_g (lw_at lw_m11 16 rfl) rfl
theorem q2549 : (Jvm.Cond.static ({ cls := "RoseProverbsLaw", name := "proverb", desc := "(LRoseProverbs;II[J)I" } : Jvm.MethodName)) ∈ lw_all := lw_g (lw_at lw_m11 17 rfl) rfl
theorem q2550 : (Jvm.Cond.codeWith ({ cls := "RoseProverbsLaw", name := "proverb", desc := "(LRoseProverbs;II[J)I" } : Jvm.MethodName) method_5_code (5 : Nat) (Option.some Jvm.ClassFile.FieldType.int) [((0 : Nat), (10 : Nat), (13 : Nat), (22 : Nat)), ((0 : Nat), (10 : Nat), (17 : Nat), (13 : Nat))]) ∈ lw_all := lw_g (lw_at lw_m11 18 rfl) rfl
theorem q2551 : (Jvm.Cond.classLink "RoseProverbsLaw" (22 : Nat) "java/lang/IndexOutOfBoundsException") ∈ lw_all := lw_g (lw_at lw_m11 19 rfl) rfl
theorem q2570 : (Jvm.Cond.methodLink "RoseProverbsLaw" (18 : Nat) ({ cls := "RoseProverbs", name := "proverb", desc := "(II)I" } : Jvm.MethodName)) ∈ lw_all := lw_g (lw_at lw_m11 38 rfl) rfl
theorem q2604 : (Jvm.Cond.methodLink "RoseProverbsLaw" (164 : Nat) ({ cls := "RoseProverbsLaw", name := "speaks", desc := "(LRoseProverbs;III[J)I" } : Jvm.MethodName)) ∈ lw_all := lw_g (lw_at lw_m11 72 rfl) rfl
theorem q2605 : (Jvm.Cond.static ({ cls := "RoseProverbsLaw", name := "speaks", desc := "(LRoseProverbs;III[J)I" } : Jvm.MethodName)) ∈ lw_all := lw_g (lw_at lw_m11 73 rfl) rfl
theorem q2606 : (Jvm.Cond.codeWith ({ cls := "RoseProverbsLaw", name := "speaks", desc := "(LRoseProverbs;III[J)I" } : Jvm.MethodName) method_6_code (6 : Nat) (Option.some Jvm.ClassFile.FieldType.int) [((0 : Nat), (19 : Nat), (22 : Nat), (22 : Nat))]) ∈ lw_all := lw_g (lw_at lw_m11 74 rfl) rfl
theorem q2607 : (Jvm.Cond.methodLink "RoseProverbsLaw" (24 : Nat) ({ cls := "RoseProverbs", name := "speaks", desc := "(III)Z" } : Jvm.MethodName)) ∈ lw_all := lw_g (lw_at lw_m11 75 rfl) rfl
theorem q2616 : (Jvm.Cond.methodLink "RoseProverbsLaw" (168 : Nat) ({ cls := "RoseProverbsLaw", name := "speakers", desc := "(LRoseProverbs;II[J)I" } : Jvm.MethodName)) ∈ lw_all := lw_g (lw_at lw_m11 84 rfl) rfl
theorem q2617 : (Jvm.Cond.static ({ cls := "RoseProverbsLaw", name := "speakers", desc := "(LRoseProverbs;II[J)I" } : Jvm.MethodName)) ∈ lw_all := lw_g (lw_at lw_m11 85 rfl) rfl
theorem q2618 : (Jvm.Cond.codeWith ({ cls := "RoseProverbsLaw", name := "speakers", desc := "(LRoseProverbs;II[J)I" } : Jvm.MethodName) method_7_code (5 : Nat) (Option.some Jvm.ClassFile.FieldType.int) [((0 : Nat), (10 : Nat), (13 : Nat), (22 : Nat))]) ∈ lw_all := lw_g (lw_at lw_m11 86 rfl) rfl
theorem q2619 : (Jvm.Cond.methodLink "RoseProverbsLaw" (28 : Nat) ({ cls := "RoseProverbs", name := "speakers", desc := "(II)I" } : Jvm.MethodName)) ∈ lw_all := lw_g (lw_at lw_m11 87 rfl) rfl
theorem q2662 : (Jvm.Cond.methodLink "RoseProverbsLaw" (171 : Nat) ({ cls := "RoseProverbsLaw", name := "speaker", desc := "(LRoseProverbs;III[J)I" } : Jvm.MethodName)) ∈ lw_all := lw_g (lw_at lw_m11 130 rfl) rfl
theorem q2663 : (Jvm.Cond.static ({ cls := "RoseProverbsLaw", name := "speaker", desc := "(LRoseProverbs;III[J)I" } : Jvm.MethodName)) ∈ lw_all := lw_g (lw_at lw_m11 131 rfl) rfl
theorem q2664 : (Jvm.Cond.codeWith ({ cls := "RoseProverbsLaw", name := "speaker", desc := "(LRoseProverbs;III[J)I" } : Jvm.MethodName) method_8_code (6 : Nat) (Option.some Jvm.ClassFile.FieldType.int) [((0 : Nat), (12 : Nat), (15 : Nat), (22 : Nat))]) ∈ lw_all := lw_g (lw_at lw_m11 132 rfl) rfl
theorem q2665 : (Jvm.Cond.methodLink "RoseProverbsLaw" (31 : Nat) ({ cls := "RoseProverbs", name := "speaker", desc := "(III)I" } : Jvm.MethodName)) ∈ lw_all := lw_g (lw_at lw_m11 133 rfl) rfl
theorem q2669 : (Jvm.Cond.methodLink "RoseProverbsLaw" (174 : Nat) ({ cls := "RoseProverbsLaw", name := "voice", desc := "(LRoseProverbs;III[J)I" } : Jvm.MethodName)) ∈ lw_all := lw_g (lw_at lw_m11 137 rfl) rfl
theorem q2670 : (Jvm.Cond.static ({ cls := "RoseProverbsLaw", name := "voice", desc := "(LRoseProverbs;III[J)I" } : Jvm.MethodName)) ∈ lw_all := lw_g (lw_at lw_m11 138 rfl) rfl
theorem q2671 : (Jvm.Cond.codeWith ({ cls := "RoseProverbsLaw", name := "voice", desc := "(LRoseProverbs;III[J)I" } : Jvm.MethodName) method_9_code (6 : Nat) (Option.some Jvm.ClassFile.FieldType.int) [((0 : Nat), (12 : Nat), (15 : Nat), (22 : Nat)), ((0 : Nat), (12 : Nat), (19 : Nat), (13 : Nat))]) ∈ lw_all := lw_g (lw_at lw_m11 139 rfl) rfl
theorem q2672 : (Jvm.Cond.methodLink "RoseProverbsLaw" (35 : Nat) ({ cls := "RoseProverbs", name := "voice", desc := "(III)I" } : Jvm.MethodName)) ∈ lw_all := lw_g (lw_at lw_m11 140 rfl) rfl
theorem q2684 : (Jvm.Cond.methodLink "RoseProverbsLaw" (177 : Nat) ({ cls := "RoseProverbsLaw", name := "told", desc := "(LRoseProverbs;II[J)I" } : Jvm.MethodName)) ∈ lw_all := lw_g (lw_at lw_m11 152 rfl) rfl
theorem q2685 : (Jvm.Cond.static ({ cls := "RoseProverbsLaw", name := "told", desc := "(LRoseProverbs;II[J)I" } : Jvm.MethodName)) ∈ lw_all := lw_g (lw_at lw_m11 153 rfl) rfl
theorem q2686 : (Jvm.Cond.codeWith ({ cls := "RoseProverbsLaw", name := "told", desc := "(LRoseProverbs;II[J)I" } : Jvm.MethodName) method_10_code (5 : Nat) (Option.some Jvm.ClassFile.FieldType.int) [((0 : Nat), (10 : Nat), (13 : Nat), (22 : Nat))]) ∈ lw_all := lw_g (lw_at lw_m11 154 rfl) rfl
theorem q2687 : (Jvm.Cond.methodLink "RoseProverbsLaw" (38 : Nat) ({ cls := "RoseProverbs", name := "told", desc := "(II)I" } : Jvm.MethodName)) ∈ lw_all := lw_g (lw_at lw_m11 155 rfl) rfl
theorem q2691 : (Jvm.Cond.methodLink "RoseProverbsLaw" (180 : Nat) ({ cls := "RoseProverbsLaw", name := "lead", desc := "(LRoseProverbs;II[J)I" } : Jvm.MethodName)) ∈ lw_all := lw_g (lw_at lw_m11 159 rfl) rfl
theorem q2692 : (Jvm.Cond.static ({ cls := "RoseProverbsLaw", name := "lead", desc := "(LRoseProverbs;II[J)I" } : Jvm.MethodName)) ∈ lw_all := lw_g (lw_at lw_m11 160 rfl) rfl
theorem q2693 : (Jvm.Cond.codeWith ({ cls := "RoseProverbsLaw", name := "lead", desc := "(LRoseProverbs;II[J)I" } : Jvm.MethodName) method_11_code (5 : Nat) (Option.some Jvm.ClassFile.FieldType.int) [((0 : Nat), (10 : Nat), (13 : Nat), (22 : Nat))]) ∈ lw_all := lw_g (lw_at lw_m11 161 rfl) rfl
theorem q2694 : (Jvm.Cond.methodLink "RoseProverbsLaw" (41 : Nat) ({ cls := "RoseProverbs", name := "lead", desc := "(II)I" } : Jvm.MethodName)) ∈ lw_all := lw_g (lw_at lw_m11 162 rfl) rfl
theorem q2699 : (Jvm.Cond.methodLink "RoseProverbsLaw" (183 : Nat) ({ cls := "RoseProverbsLaw", name := "why", desc := "(LRoseProverbs;IIII[J)I" } : Jvm.MethodName)) ∈ lw_all := lw_g (lw_at lw_m11 167 rfl) rfl
theorem q2700 : (Jvm.Cond.static ({ cls := "RoseProverbsLaw", name := "why", desc := "(LRoseProverbs;IIII[J)I" } : Jvm.MethodName)) ∈ lw_all := lw_g (lw_at lw_m11 168 rfl) rfl
theorem q2701 : (Jvm.Cond.codeWith ({ cls := "RoseProverbsLaw", name := "why", desc := "(LRoseProverbs;IIII[J)I" } : Jvm.MethodName) method_12_code (7 : Nat) (Option.some Jvm.ClassFile.FieldType.int) [((0 : Nat), (14 : Nat), (17 : Nat), (22 : Nat)), ((0 : Nat), (14 : Nat), (21 : Nat), (13 : Nat))]) ∈ lw_all := lw_g (lw_at lw_m11 169 rfl) rfl
theorem q2702 : (Jvm.Cond.methodLink "RoseProverbsLaw" (44 : Nat) ({ cls := "RoseProverbs", name := "why", desc := "(IIII)I" } : Jvm.MethodName)) ∈ lw_all := lw_g (lw_at lw_m11 170 rfl) rfl
theorem q2712 : (Jvm.Cond.methodLink "RoseProverbsLaw" (187 : Nat) ({ cls := "RoseProverbsLaw", name := "clash", desc := "(LRoseProverbs;II[J)I" } : Jvm.MethodName)) ∈ lw_all := lw_g (lw_at lw_m11 180 rfl) rfl
theorem q2713 : (Jvm.Cond.static ({ cls := "RoseProverbsLaw", name := "clash", desc := "(LRoseProverbs;II[J)I" } : Jvm.MethodName)) ∈ lw_all := lw_g (lw_at lw_m11 181 rfl) rfl
theorem q2714 : (Jvm.Cond.codeWith ({ cls := "RoseProverbsLaw", name := "clash", desc := "(LRoseProverbs;II[J)I" } : Jvm.MethodName) method_13_code (5 : Nat) (Option.some Jvm.ClassFile.FieldType.int) [((0 : Nat), (17 : Nat), (20 : Nat), (22 : Nat))]) ∈ lw_all := lw_g (lw_at lw_m11 182 rfl) rfl
theorem q2715 : (Jvm.Cond.methodLink "RoseProverbsLaw" (48 : Nat) ({ cls := "RoseProverbs", name := "clash", desc := "(II)Z" } : Jvm.MethodName)) ∈ lw_all := lw_g (lw_at lw_m11 183 rfl) rfl
theorem q2719 : (Jvm.Cond.methodLink "RoseProverbsLaw" (190 : Nat) ({ cls := "RoseProverbsLaw", name := "met", desc := "(LRoseProverbs;II[J)I" } : Jvm.MethodName)) ∈ lw_all := lw_g (lw_at lw_m11 187 rfl) rfl
theorem q2720 : (Jvm.Cond.static ({ cls := "RoseProverbsLaw", name := "met", desc := "(LRoseProverbs;II[J)I" } : Jvm.MethodName)) ∈ lw_all := lw_g (lw_at lw_m11 188 rfl) rfl
theorem q2721 : (Jvm.Cond.codeWith ({ cls := "RoseProverbsLaw", name := "met", desc := "(LRoseProverbs;II[J)I" } : Jvm.MethodName) method_14_code (5 : Nat) (Option.some Jvm.ClassFile.FieldType.int) [((0 : Nat), (10 : Nat), (13 : Nat), (22 : Nat))]) ∈ lw_all := lw_g (lw_at lw_m11 189 rfl) rfl
theorem q2722 : (Jvm.Cond.methodLink "RoseProverbsLaw" (52 : Nat) ({ cls := "RoseProverbs", name := "met", desc := "(II)I" } : Jvm.MethodName)) ∈ lw_all := lw_g (lw_at lw_m11 190 rfl) rfl
theorem q2730 : (Jvm.Cond.methodLink "RoseProverbsLaw" (193 : Nat) ({ cls := "RoseProverbsLaw", name := "beat", desc := "(LRoseProverbs;II[J)I" } : Jvm.MethodName)) ∈ lw_all := lw_g (lw_at lw_m11 198 rfl) rfl
theorem q2731 : (Jvm.Cond.static ({ cls := "RoseProverbsLaw", name := "beat", desc := "(LRoseProverbs;II[J)I" } : Jvm.MethodName)) ∈ lw_all := lw_g (lw_at lw_m11 199 rfl) rfl
theorem q2732 : (Jvm.Cond.codeWith ({ cls := "RoseProverbsLaw", name := "beat", desc := "(LRoseProverbs;II[J)I" } : Jvm.MethodName) method_15_code (5 : Nat) (Option.some Jvm.ClassFile.FieldType.int) [((0 : Nat), (10 : Nat), (13 : Nat), (22 : Nat))]) ∈ lw_all := lw_g (lw_at lw_m11 200 rfl) rfl
theorem q2733 : (Jvm.Cond.methodLink "RoseProverbsLaw" (55 : Nat) ({ cls := "RoseProverbs", name := "beat", desc := "(II)I" } : Jvm.MethodName)) ∈ lw_all := lw_g (lw_at lw_m11 201 rfl) rfl
theorem q2737 : (Jvm.Cond.methodLink "RoseProverbsLaw" (196 : Nat) ({ cls := "RoseProverbsLaw", name := "rival", desc := "(LRoseProverbs;I[J)I" } : Jvm.MethodName)) ∈ lw_all := lw_g (lw_at lw_m11 205 rfl) rfl
theorem q2738 : (Jvm.Cond.static ({ cls := "RoseProverbsLaw", name := "rival", desc := "(LRoseProverbs;I[J)I" } : Jvm.MethodName)) ∈ lw_all := lw_g (lw_at lw_m11 206 rfl) rfl
theorem q2739 : (Jvm.Cond.codeWith ({ cls := "RoseProverbsLaw", name := "rival", desc := "(LRoseProverbs;I[J)I" } : Jvm.MethodName) method_16_code (4 : Nat) (Option.some Jvm.ClassFile.FieldType.int) [((0 : Nat), (9 : Nat), (12 : Nat), (22 : Nat))]) ∈ lw_all := lw_g (lw_at lw_m11 207 rfl) rfl
theorem q2740 : (Jvm.Cond.methodLink "RoseProverbsLaw" (58 : Nat) ({ cls := "RoseProverbs", name := "rival", desc := "(I)I" } : Jvm.MethodName)) ∈ lw_all := lw_g (lw_at lw_m11 208 rfl) rfl
theorem q2744 : (Jvm.Cond.methodLink "RoseProverbsLaw" (203 : Nat) ({ cls := "RoseProverbsLaw", name := "year", desc := "(LRoseProverbs;II[J)I" } : Jvm.MethodName)) ∈ lw_all := lw_g (lw_at lw_m11 212 rfl) rfl
theorem q2745 : (Jvm.Cond.static ({ cls := "RoseProverbsLaw", name := "year", desc := "(LRoseProverbs;II[J)I" } : Jvm.MethodName)) ∈ lw_all := lw_g (lw_at lw_m11 213 rfl) rfl
theorem q2746 : (Jvm.Cond.codeWith ({ cls := "RoseProverbsLaw", name := "year", desc := "(LRoseProverbs;II[J)I" } : Jvm.MethodName) method_17_code (5 : Nat) (Option.some Jvm.ClassFile.FieldType.int) [((0 : Nat), (10 : Nat), (13 : Nat), (13 : Nat))]) ∈ lw_all := lw_g (lw_at lw_m11 214 rfl) rfl
theorem q2747 : (Jvm.Cond.methodLink "RoseProverbsLaw" (61 : Nat) ({ cls := "RoseProverbs", name := "year", desc := "(II)I" } : Jvm.MethodName)) ∈ lw_all := lw_g (lw_at lw_m11 215 rfl) rfl
theorem q2752 : (Jvm.Cond.methodLink "RoseProverbsLaw" (206 : Nat) ({ cls := "RoseProverbsLaw", name := "dayOf", desc := "(LRoseProverbs;II[J)I" } : Jvm.MethodName)) ∈ lw_all := lw_g (lw_at lw_m11 220 rfl) rfl
theorem q2753 : (Jvm.Cond.static ({ cls := "RoseProverbsLaw", name := "dayOf", desc := "(LRoseProverbs;II[J)I" } : Jvm.MethodName)) ∈ lw_all := lw_g (lw_at lw_m11 221 rfl) rfl
theorem q2754 : (Jvm.Cond.codeWith ({ cls := "RoseProverbsLaw", name := "dayOf", desc := "(LRoseProverbs;II[J)I" } : Jvm.MethodName) method_18_code (5 : Nat) (Option.some Jvm.ClassFile.FieldType.int) [((0 : Nat), (10 : Nat), (13 : Nat), (13 : Nat))]) ∈ lw_all := lw_g (lw_at lw_m11 222 rfl) rfl
theorem q2755 : (Jvm.Cond.methodLink "RoseProverbsLaw" (64 : Nat) ({ cls := "RoseProverbs", name := "dayOf", desc := "(II)I" } : Jvm.MethodName)) ∈ lw_all := lw_g (lw_at lw_m11 223 rfl) rfl
theorem q2759 : (Jvm.Cond.methodLink "RoseProverbsLaw" (209 : Nat) ({ cls := "RoseProverbsLaw", name := "turnsIn", desc := "(LRoseProverbs;II[J)I" } : Jvm.MethodName)) ∈ lw_all := lw_g (lw_at lw_m11 227 rfl) rfl
theorem q2760 : (Jvm.Cond.static ({ cls := "RoseProverbsLaw", name := "turnsIn", desc := "(LRoseProverbs;II[J)I" } : Jvm.MethodName)) ∈ lw_all := lw_g (lw_at lw_m11 228 rfl) rfl
theorem q2761 : (Jvm.Cond.codeWith ({ cls := "RoseProverbsLaw", name := "turnsIn", desc := "(LRoseProverbs;II[J)I" } : Jvm.MethodName) method_19_code (5 : Nat) (Option.some Jvm.ClassFile.FieldType.int) [((0 : Nat), (10 : Nat), (13 : Nat), (22 : Nat)), ((0 : Nat), (10 : Nat), (17 : Nat), (13 : Nat))]) ∈ lw_all := lw_g (lw_at lw_m11 229 rfl) rfl
theorem q2762 : (Jvm.Cond.methodLink "RoseProverbsLaw" (67 : Nat) ({ cls := "RoseProverbs", name := "turnsIn", desc := "(II)I" } : Jvm.MethodName)) ∈ lw_all := lw_g (lw_at lw_m11 230 rfl) rfl
theorem q2770 : (Jvm.Cond.methodLink "RoseProverbsLaw" (212 : Nat) ({ cls := "RoseProverbsLaw", name := "weightIn", desc := "(LRoseProverbs;IIII[J)I" } : Jvm.MethodName)) ∈ lw_all := lw_g (lw_at lw_m11 238 rfl) rfl
theorem q2771 : (Jvm.Cond.static ({ cls := "RoseProverbsLaw", name := "weightIn", desc := "(LRoseProverbs;IIII[J)I" } : Jvm.MethodName)) ∈ lw_all := lw_g (lw_at lw_m11 239 rfl) rfl
theorem q2772 : (Jvm.Cond.codeWith ({ cls := "RoseProverbsLaw", name := "weightIn", desc := "(LRoseProverbs;IIII[J)I" } : Jvm.MethodName) method_20_code (7 : Nat) (Option.some Jvm.ClassFile.FieldType.int) [((0 : Nat), (14 : Nat), (17 : Nat), (22 : Nat)), ((0 : Nat), (14 : Nat), (21 : Nat), (13 : Nat))]) ∈ lw_all := lw_g (lw_at lw_m12 0 rfl) rfl
theorem q2773 : (Jvm.Cond.methodLink "RoseProverbsLaw" (70 : Nat) ({ cls := "RoseProverbs", name := "weightIn", desc := "(IIII)I" } : Jvm.MethodName)) ∈ lw_all := lw_g (lw_at lw_m12 1 rfl) rfl
theorem q2778 : (Jvm.Cond.methodLink "RoseProverbsLaw" (215 : Nat) ({ cls := "RoseProverbsLaw", name := "rightBy", desc := "(LRoseProverbs;I[J)I" } : Jvm.MethodName)) ∈ lw_all := lw_g (lw_at lw_m12 6 rfl) rfl
theorem q2779 : (Jvm.Cond.static ({ cls := "RoseProverbsLaw", name := "rightBy", desc := "(LRoseProverbs;I[J)I" } : Jvm.MethodName)) ∈ lw_all := lw_g (lw_at lw_m12 7 rfl) rfl
theorem q2780 : (Jvm.Cond.codeWith ({ cls := "RoseProverbsLaw", name := "rightBy", desc := "(LRoseProverbs;I[J)I" } : Jvm.MethodName) method_21_code (4 : Nat) (Option.some Jvm.ClassFile.FieldType.int) [((0 : Nat), (9 : Nat), (12 : Nat), (13 : Nat))]) ∈ lw_all := lw_g (lw_at lw_m12 8 rfl) rfl
theorem q2781 : (Jvm.Cond.methodLink "RoseProverbsLaw" (73 : Nat) ({ cls := "RoseProverbs", name := "rightBy", desc := "(I)I" } : Jvm.MethodName)) ∈ lw_all := lw_g (lw_at lw_m12 9 rfl) rfl
theorem q2785 : (Jvm.Cond.methodLink "RoseProverbsLaw" (222 : Nat) ({ cls := "RoseProverbsLaw", name := "rightWith", desc := "(LRoseProverbs;II[J)I" } : Jvm.MethodName)) ∈ lw_all := lw_g (lw_at lw_m12 13 rfl) rfl
theorem q2786 : (Jvm.Cond.static ({ cls := "RoseProverbsLaw", name := "rightWith", desc := "(LRoseProverbs;II[J)I" } : Jvm.MethodName)) ∈ lw_all := lw_g (lw_at lw_m12 14 rfl) rfl
theorem q2787 : (Jvm.Cond.codeWith ({ cls := "RoseProverbsLaw", name := "rightWith", desc := "(LRoseProverbs;II[J)I" } : Jvm.MethodName) method_22_code (5 : Nat) (Option.some Jvm.ClassFile.FieldType.int) [((0 : Nat), (10 : Nat), (13 : Nat), (13 : Nat))]) ∈ lw_all := lw_g (lw_at lw_m12 15 rfl) rfl
theorem q2788 : (Jvm.Cond.methodLink "RoseProverbsLaw" (76 : Nat) ({ cls := "RoseProverbs", name := "rightWith", desc := "(II)I" } : Jvm.MethodName)) ∈ lw_all := lw_g (lw_at lw_m12 16 rfl) rfl
theorem q2793 : (Jvm.Cond.methodLink "RoseProverbsLaw" (225 : Nat) ({ cls := "RoseProverbsLaw", name := "harmOf", desc := "(LRoseProverbs;I[J)I" } : Jvm.MethodName)) ∈ lw_all := lw_g (lw_at lw_m12 21 rfl) rfl
theorem q2794 : (Jvm.Cond.static ({ cls := "RoseProverbsLaw", name := "harmOf", desc := "(LRoseProverbs;I[J)I" } : Jvm.MethodName)) ∈ lw_all := lw_g (lw_at lw_m12 22 rfl) rfl
theorem q2795 : (Jvm.Cond.codeWith ({ cls := "RoseProverbsLaw", name := "harmOf", desc := "(LRoseProverbs;I[J)I" } : Jvm.MethodName) method_23_code (4 : Nat) (Option.some Jvm.ClassFile.FieldType.int) [((0 : Nat), (9 : Nat), (12 : Nat), (22 : Nat))]) ∈ lw_all := lw_g (lw_at lw_m12 23 rfl) rfl
theorem q2796 : (Jvm.Cond.methodLink "RoseProverbsLaw" (79 : Nat) ({ cls := "RoseProverbs", name := "harmOf", desc := "(I)I" } : Jvm.MethodName)) ∈ lw_all := lw_g (lw_at lw_m12 24 rfl) rfl
theorem q2800 : (Jvm.Cond.methodLink "RoseProverbsLaw" (228 : Nat) ({ cls := "RoseProverbsLaw", name := "reachOf", desc := "(LRoseProverbs;I[J)I" } : Jvm.MethodName)) ∈ lw_all := lw_g (lw_at lw_m12 28 rfl) rfl
theorem q2801 : (Jvm.Cond.static ({ cls := "RoseProverbsLaw", name := "reachOf", desc := "(LRoseProverbs;I[J)I" } : Jvm.MethodName)) ∈ lw_all := lw_g (lw_at lw_m12 29 rfl) rfl
theorem q2802 : (Jvm.Cond.codeWith ({ cls := "RoseProverbsLaw", name := "reachOf", desc := "(LRoseProverbs;I[J)I" } : Jvm.MethodName) method_24_code (4 : Nat) (Option.some Jvm.ClassFile.FieldType.int) [((0 : Nat), (9 : Nat), (12 : Nat), (22 : Nat))]) ∈ lw_all := lw_g (lw_at lw_m12 30 rfl) rfl
theorem q2803 : (Jvm.Cond.methodLink "RoseProverbsLaw" (82 : Nat) ({ cls := "RoseProverbs", name := "reachOf", desc := "(I)I" } : Jvm.MethodName)) ∈ lw_all := lw_g (lw_at lw_m12 31 rfl) rfl
theorem q2808 : (Jvm.Cond.methodLink "RoseProverbsLaw" (246 : Nat) ({ cls := "RoseProverbsLaw", name := "day", desc := "(LRoseProverbs;II[J)I" } : Jvm.MethodName)) ∈ lw_all := lw_g (lw_at lw_m12 36 rfl) rfl
theorem q2809 : (Jvm.Cond.static ({ cls := "RoseProverbsLaw", name := "day", desc := "(LRoseProverbs;II[J)I" } : Jvm.MethodName)) ∈ lw_all := lw_g (lw_at lw_m12 37 rfl) rfl
theorem q2810 : (Jvm.Cond.codeWith ({ cls := "RoseProverbsLaw", name := "day", desc := "(LRoseProverbs;II[J)I" } : Jvm.MethodName) method_25_code (5 : Nat) (Option.some Jvm.ClassFile.FieldType.int) [((0 : Nat), (10 : Nat), (13 : Nat), (22 : Nat)), ((0 : Nat), (10 : Nat), (17 : Nat), (13 : Nat)), ((0 : Nat), (10 : Nat), (21 : Nat), (88 : Nat))]) ∈ lw_all := lw_g (lw_at lw_m12 38 rfl) rfl
theorem q2811 : (Jvm.Cond.classLink "RoseProverbsLaw" (88 : Nat) "java/lang/IllegalStateException") ∈ lw_all := lw_g (lw_at lw_m12 39 rfl) rfl
theorem q2812 : (Jvm.Cond.methodLink "RoseProverbsLaw" (85 : Nat) ({ cls := "RoseProverbs", name := "day", desc := "(II)I" } : Jvm.MethodName)) ∈ lw_all := lw_g (lw_at lw_m12 40 rfl) rfl
theorem q2824 : (Jvm.Cond.methodLink "RoseProverbsLaw" (249 : Nat) ({ cls := "RoseProverbsLaw", name := "proverbNew", desc := "(LRoseProverbs;IIIIII[J)I" } : Jvm.MethodName)) ∈ lw_all := lw_g (lw_at lw_m12 52 rfl) rfl
theorem q2825 : (Jvm.Cond.static ({ cls := "RoseProverbsLaw", name := "proverbNew", desc := "(LRoseProverbs;IIIIII[J)I" } : Jvm.MethodName)) ∈ lw_all := lw_g (lw_at lw_m12 53 rfl) rfl
theorem q2826 : (Jvm.Cond.codeWith ({ cls := "RoseProverbsLaw", name := "proverbNew", desc := "(LRoseProverbs;IIIIII[J)I" } : Jvm.MethodName) method_26_code (9 : Nat) (Option.some Jvm.ClassFile.FieldType.int) [((0 : Nat), (18 : Nat), (21 : Nat), (22 : Nat)), ((0 : Nat), (18 : Nat), (25 : Nat), (13 : Nat)), ((0 : Nat), (18 : Nat), (29 : Nat), (88 : Nat))]) ∈ lw_all := lw_g (lw_at lw_m12 54 rfl) rfl
theorem q2827 : (Jvm.Cond.methodLink "RoseProverbsLaw" (90 : Nat) ({ cls := "RoseProverbs", name := "proverbNew", desc := "(IIIIII)I" } : Jvm.MethodName)) ∈ lw_all := lw_g (lw_at lw_m12 55 rfl) rfl
theorem q2833 : (Jvm.Cond.methodLink "RoseProverbsLaw" (253 : Nat) ({ cls := "RoseProverbsLaw", name := "forget", desc := "(LRoseProverbs;I[J)I" } : Jvm.MethodName)) ∈ lw_all := lw_g (lw_at lw_m12 61 rfl) rfl
theorem q2834 : (Jvm.Cond.static ({ cls := "RoseProverbsLaw", name := "forget", desc := "(LRoseProverbs;I[J)I" } : Jvm.MethodName)) ∈ lw_all := lw_g (lw_at lw_m12 62 rfl) rfl
theorem q2835 : (Jvm.Cond.codeWith ({ cls := "RoseProverbsLaw", name := "forget", desc := "(LRoseProverbs;I[J)I" } : Jvm.MethodName) method_27_code (4 : Nat) (Option.some Jvm.ClassFile.FieldType.int) [((0 : Nat), (9 : Nat), (12 : Nat), (22 : Nat)), ((0 : Nat), (9 : Nat), (15 : Nat), (88 : Nat))]) ∈ lw_all := lw_g (lw_at lw_m12 63 rfl) rfl
theorem q2836 : (Jvm.Cond.methodLink "RoseProverbsLaw" (94 : Nat) ({ cls := "RoseProverbs", name := "forget", desc := "(I)I" } : Jvm.MethodName)) ∈ lw_all := lw_g (lw_at lw_m12 64 rfl) rfl
theorem q2841 : (Jvm.Cond.methodLink "RoseProverbsLaw" (256 : Nat) ({ cls := "RoseProverbsLaw", name := "weigh", desc := "(LRoseProverbs;II[J)I" } : Jvm.MethodName)) ∈ lw_all := lw_g (lw_at lw_m12 69 rfl) rfl
theorem q2842 : (Jvm.Cond.static ({ cls := "RoseProverbsLaw", name := "weigh", desc := "(LRoseProverbs;II[J)I" } : Jvm.MethodName)) ∈ lw_all := lw_g (lw_at lw_m12 70 rfl) rfl
theorem q2843 : (Jvm.Cond.codeWith ({ cls := "RoseProverbsLaw", name := "weigh", desc := "(LRoseProverbs;II[J)I" } : Jvm.MethodName) method_28_code (5 : Nat) (Option.some Jvm.ClassFile.FieldType.int) [((0 : Nat), (10 : Nat), (13 : Nat), (22 : Nat)), ((0 : Nat), (10 : Nat), (17 : Nat), (13 : Nat))]) ∈ lw_all := lw_g (lw_at lw_m12 71 rfl) rfl
theorem q2844 : (Jvm.Cond.methodLink "RoseProverbsLaw" (97 : Nat) ({ cls := "RoseProverbs", name := "weigh", desc := "(II)I" } : Jvm.MethodName)) ∈ lw_all := lw_g (lw_at lw_m12 72 rfl) rfl
theorem q2849 : (Jvm.Cond.methodLink "RoseProverbsLaw" (259 : Nat) ({ cls := "RoseProverbsLaw", name := "set", desc := "(LRoseProverbs;II[J)I" } : Jvm.MethodName)) ∈ lw_all := lw_g (lw_at lw_m12 77 rfl) rfl
theorem q2850 : (Jvm.Cond.static ({ cls := "RoseProverbsLaw", name := "set", desc := "(LRoseProverbs;II[J)I" } : Jvm.MethodName)) ∈ lw_all := lw_g (lw_at lw_m12 78 rfl) rfl
theorem q2851 : (Jvm.Cond.codeWith ({ cls := "RoseProverbsLaw", name := "set", desc := "(LRoseProverbs;II[J)I" } : Jvm.MethodName) method_29_code (5 : Nat) (Option.some Jvm.ClassFile.FieldType.int) [((0 : Nat), (10 : Nat), (13 : Nat), (13 : Nat))]) ∈ lw_all := lw_g (lw_at lw_m12 79 rfl) rfl
theorem q2852 : (Jvm.Cond.methodLink "RoseProverbsLaw" (100 : Nat) ({ cls := "RoseProverbs", name := "set", desc := "(II)I" } : Jvm.MethodName)) ∈ lw_all := lw_g (lw_at lw_m12 80 rfl) rfl
theorem q2856 : (Jvm.Cond.methodLink "RoseProverbsLaw" (262 : Nat) ({ cls := "RoseProverbsLaw", name := "undo", desc := "(LRoseProverbs;[J)I" } : Jvm.MethodName)) ∈ lw_all := lw_g (lw_at lw_m12 84 rfl) rfl
theorem q2857 : (Jvm.Cond.static ({ cls := "RoseProverbsLaw", name := "undo", desc := "(LRoseProverbs;[J)I" } : Jvm.MethodName)) ∈ lw_all := lw_g (lw_at lw_m12 85 rfl) rfl
theorem q2858 : (Jvm.Cond.codeWith ({ cls := "RoseProverbsLaw", name := "undo", desc := "(LRoseProverbs;[J)I" } : Jvm.MethodName) method_30_code (3 : Nat) (Option.some Jvm.ClassFile.FieldType.int) [((0 : Nat), (8 : Nat), (11 : Nat), (107 : Nat))]) ∈ lw_all := lw_g (lw_at lw_m12 86 rfl) rfl
theorem q2859 : (Jvm.Cond.classLink "RoseProverbsLaw" (107 : Nat) "java/util/NoSuchElementException") ∈ lw_all := lw_g (lw_at lw_m12 87 rfl) rfl
theorem q2860 : (Jvm.Cond.methodLink "RoseProverbsLaw" (103 : Nat) ({ cls := "RoseProverbs", name := "undo", desc := "()I" } : Jvm.MethodName)) ∈ lw_all := lw_g (lw_at lw_m12 88 rfl) rfl
theorem q2877 : (Jvm.Cond.methodLink "RoseProverbsLaw" (266 : Nat) ({ cls := "RoseProverbsLaw", name := "printMonth", desc := "(LRoseProverbs;I[J)I" } : Jvm.MethodName)) ∈ lw_all := lw_g (lw_at lw_m12 105 rfl) rfl
theorem q2878 : (Jvm.Cond.static ({ cls := "RoseProverbsLaw", name := "printMonth", desc := "(LRoseProverbs;I[J)I" } : Jvm.MethodName)) ∈ lw_all := lw_g (lw_at lw_m12 106 rfl) rfl
theorem q2879 : (Jvm.Cond.codeWith ({ cls := "RoseProverbsLaw", name := "printMonth", desc := "(LRoseProverbs;I[J)I" } : Jvm.MethodName) method_31_code (4 : Nat) (Option.some Jvm.ClassFile.FieldType.int) [((0 : Nat), (9 : Nat), (12 : Nat), (22 : Nat))]) ∈ lw_all := lw_g (lw_at lw_m12 107 rfl) rfl
theorem q2880 : (Jvm.Cond.methodLink "RoseProverbsLaw" (109 : Nat) ({ cls := "RoseProverbs", name := "printMonth", desc := "(I)I" } : Jvm.MethodName)) ∈ lw_all := lw_g (lw_at lw_m12 108 rfl) rfl
theorem q2937 : (Jvm.Cond.methodLink "RoseProverbsLaw" (269 : Nat) ({ cls := "RoseProverbsLaw", name := "printProverb", desc := "(LRoseProverbs;I[J)I" } : Jvm.MethodName)) ∈ lw_all := lw_g (lw_at lw_m12 165 rfl) rfl
theorem q2938 : (Jvm.Cond.static ({ cls := "RoseProverbsLaw", name := "printProverb", desc := "(LRoseProverbs;I[J)I" } : Jvm.MethodName)) ∈ lw_all := lw_g (lw_at lw_m12 166 rfl) rfl
theorem q2939 : (Jvm.Cond.codeWith ({ cls := "RoseProverbsLaw", name := "printProverb", desc := "(LRoseProverbs;I[J)I" } : Jvm.MethodName) method_32_code (4 : Nat) (Option.some Jvm.ClassFile.FieldType.int) [((0 : Nat), (9 : Nat), (12 : Nat), (22 : Nat))]) ∈ lw_all := lw_g (lw_at lw_m12 167 rfl) rfl
theorem q2940 : (Jvm.Cond.methodLink "RoseProverbsLaw" (112 : Nat) ({ cls := "RoseProverbs", name := "printProverb", desc := "(I)I" } : Jvm.MethodName)) ∈ lw_all := lw_g (lw_at lw_m12 168 rfl) rfl
theorem q2945 : (Jvm.Cond.methodLink "RoseProverbsLaw" (280 : Nat) ({ cls := "RoseProverbsLaw", name := "restoreState", desc := "(LRoseProverbs;[J)I" } : Jvm.MethodName)) ∈ lw_all := lw_g (lw_at lw_m12 173 rfl) rfl
theorem q2946 : (Jvm.Cond.static ({ cls := "RoseProverbsLaw", name := "restoreState", desc := "(LRoseProverbs;[J)I" } : Jvm.MethodName)) ∈ lw_all := lw_g (lw_at lw_m12 174 rfl) rfl
theorem q2947 : (Jvm.Cond.codeWith ({ cls := "RoseProverbsLaw", name := "restoreState", desc := "(LRoseProverbs;[J)I" } : Jvm.MethodName) method_33_code (3 : Nat) (Option.some Jvm.ClassFile.FieldType.int) [((0 : Nat), (8 : Nat), (11 : Nat), (107 : Nat))]) ∈ lw_all := lw_g (lw_at lw_m12 175 rfl) rfl
theorem q2948 : (Jvm.Cond.methodLink "RoseProverbsLaw" (115 : Nat) ({ cls := "RoseProverbs", name := "restoreState", desc := "()I" } : Jvm.MethodName)) ∈ lw_all := lw_g (lw_at lw_m12 176 rfl) rfl
theorem q2952 : (Jvm.Cond.classLink "RoseProverbsLaw" (119 : Nat) "RoseProverbsModel") ∈ lw_all := lw_g (lw_at lw_m12 180 rfl) rfl
theorem q2954 : (Jvm.Cond.methodLink "RoseProverbsLaw" (121 : Nat) ({ cls := "RoseProverbsModel", name := "<init>", desc := "()V" } : Jvm.MethodName)) ∈ lw_all := lw_g (lw_at lw_m12 182 rfl) rfl
theorem q3055 : (Jvm.Cond.methodLink "RoseProverbsLaw" (154 : Nat) ({ cls := "RoseProverbsModel", name := "thrown", desc := "()I" } : Jvm.MethodName)) ∈ lw_all := lw_g (lw_at lw_m13 43 rfl) rfl
theorem q3059 : (Jvm.Cond.methodLink "RoseProverbsLaw" (126 : Nat) ({ cls := "RoseProverbsModel", name := "appendInput", desc := "(IIIII)I" } : Jvm.MethodName)) ∈ lw_all := lw_g (lw_at lw_m13 47 rfl) rfl
theorem q3067 : (Jvm.Cond.methodLink "RoseProverbsLaw" (131 : Nat) ({ cls := "RoseProverbsModel", name := "truncateInput", desc := "(I)Z" } : Jvm.MethodName)) ∈ lw_all := lw_g (lw_at lw_m13 55 rfl) rfl
theorem q3074 : (Jvm.Cond.methodLink "RoseProverbsLaw" (135 : Nat) ({ cls := "RoseProverbsModel", name := "loadRose", desc := "()I" } : Jvm.MethodName)) ∈ lw_all := lw_g (lw_at lw_m13 62 rfl) rfl
theorem q3170 : (Jvm.Cond.methodLink "RoseProverbsLaw" (139 : Nat) ({ cls := "RoseProverbsModel", name := "playScript", desc := "()I" } : Jvm.MethodName)) ∈ lw_all := lw_g (lw_at lw_m13 158 rfl) rfl
theorem q3291 : (Jvm.Cond.methodLink "RoseProverbsLaw" (143 : Nat) ({ cls := "RoseProverbsModel", name := "errorCode", desc := "()I" } : Jvm.MethodName)) ∈ lw_all := lw_g (lw_at lw_m14 39 rfl) rfl
theorem q3295 : (Jvm.Cond.methodLink "RoseProverbsLaw" (147 : Nat) ({ cls := "RoseProverbsModel", name := "errorOffset", desc := "()I" } : Jvm.MethodName)) ∈ lw_all := lw_g (lw_at lw_m14 43 rfl) rfl
theorem q3299 : (Jvm.Cond.methodLink "RoseProverbsLaw" (153 : Nat) ({ cls := "RoseProverbsModel", name := "count", desc := "(I)I" } : Jvm.MethodName)) ∈ lw_all := lw_g (lw_at lw_m14 47 rfl) rfl
theorem q3334 : (Jvm.Cond.methodLink "RoseProverbsLaw" (159 : Nat) ({ cls := "RoseProverbsModel", name := "account", desc := "(I)I" } : Jvm.MethodName)) ∈ lw_all := lw_g (lw_at lw_m14 82 rfl) rfl
theorem q3338 : (Jvm.Cond.methodLink "RoseProverbsLaw" (163 : Nat) ({ cls := "RoseProverbsModel", name := "proverb", desc := "(II)I" } : Jvm.MethodName)) ∈ lw_all := lw_g (lw_at lw_m14 86 rfl) rfl
theorem q3346 : (Jvm.Cond.methodLink "RoseProverbsLaw" (167 : Nat) ({ cls := "RoseProverbsModel", name := "speaks", desc := "(III)Z" } : Jvm.MethodName)) ∈ lw_all := lw_g (lw_at lw_m14 94 rfl) rfl
theorem q3358 : (Jvm.Cond.methodLink "RoseProverbsLaw" (170 : Nat) ({ cls := "RoseProverbsModel", name := "speakers", desc := "(II)I" } : Jvm.MethodName)) ∈ lw_all := lw_g (lw_at lw_m14 106 rfl) rfl
theorem q3362 : (Jvm.Cond.methodLink "RoseProverbsLaw" (173 : Nat) ({ cls := "RoseProverbsModel", name := "speaker", desc := "(III)I" } : Jvm.MethodName)) ∈ lw_all := lw_g (lw_at lw_m14 110 rfl) rfl
theorem q3366 : (Jvm.Cond.methodLink "RoseProverbsLaw" (176 : Nat) ({ cls := "RoseProverbsModel", name := "voice", desc := "(III)I" } : Jvm.MethodName)) ∈ lw_all := lw_g (lw_at lw_m14 114 rfl) rfl
theorem q3374 : (Jvm.Cond.methodLink "RoseProverbsLaw" (179 : Nat) ({ cls := "RoseProverbsModel", name := "told", desc := "(II)I" } : Jvm.MethodName)) ∈ lw_all := lw_g (lw_at lw_m14 122 rfl) rfl
theorem q3378 : (Jvm.Cond.methodLink "RoseProverbsLaw" (182 : Nat) ({ cls := "RoseProverbsModel", name := "lead", desc := "(II)I" } : Jvm.MethodName)) ∈ lw_all := lw_g (lw_at lw_m14 126 rfl) rfl
theorem q3382 : (Jvm.Cond.methodLink "RoseProverbsLaw" (186 : Nat) ({ cls := "RoseProverbsModel", name := "why", desc := "(IIII)I" } : Jvm.MethodName)) ∈ lw_all := lw_g (lw_at lw_m14 130 rfl) rfl
theorem q3398 : (Jvm.Cond.methodLink "RoseProverbsLaw" (189 : Nat) ({ cls := "RoseProverbsModel", name := "clash", desc := "(II)Z" } : Jvm.MethodName)) ∈ lw_all := lw_g (lw_at lw_m14 146 rfl) rfl
theorem q3402 : (Jvm.Cond.methodLink "RoseProverbsLaw" (192 : Nat) ({ cls := "RoseProverbsModel", name := "met", desc := "(II)I" } : Jvm.MethodName)) ∈ lw_all := lw_g (lw_at lw_m14 150 rfl) rfl
theorem q3410 : (Jvm.Cond.methodLink "RoseProverbsLaw" (195 : Nat) ({ cls := "RoseProverbsModel", name := "beat", desc := "(II)I" } : Jvm.MethodName)) ∈ lw_all := lw_g (lw_at lw_m14 158 rfl) rfl
theorem q3418 : (Jvm.Cond.methodLink "RoseProverbsLaw" (198 : Nat) ({ cls := "RoseProverbsModel", name := "rival", desc := "(I)I" } : Jvm.MethodName)) ∈ lw_all := lw_g (lw_at lw_m14 166 rfl) rfl
theorem q3422 : (Jvm.Cond.methodLink "RoseProverbsLaw" (202 : Nat) ({ cls := "RoseProverbsModel", name := "byWeight", desc := "(I)I" } : Jvm.MethodName)) ∈ lw_all := lw_g (lw_at lw_m14 170 rfl) rfl
theorem q3430 : (Jvm.Cond.methodLink "RoseProverbsLaw" (205 : Nat) ({ cls := "RoseProverbsModel", name := "year", desc := "(II)I" } : Jvm.MethodName)) ∈ lw_all := lw_g (lw_at lw_m14 178 rfl) rfl
theorem q3434 : (Jvm.Cond.methodLink "RoseProverbsLaw" (208 : Nat) ({ cls := "RoseProverbsModel", name := "dayOf", desc := "(II)I" } : Jvm.MethodName)) ∈ lw_all := lw_g (lw_at lw_m14 182 rfl) rfl
theorem q3438 : (Jvm.Cond.methodLink "RoseProverbsLaw" (211 : Nat) ({ cls := "RoseProverbsModel", name := "turnsIn", desc := "(II)I" } : Jvm.MethodName)) ∈ lw_all := lw_g (lw_at lw_m14 186 rfl) rfl
theorem q3450 : (Jvm.Cond.methodLink "RoseProverbsLaw" (214 : Nat) ({ cls := "RoseProverbsModel", name := "weightIn", desc := "(IIII)I" } : Jvm.MethodName)) ∈ lw_all := lw_g (lw_at lw_m14 198 rfl) rfl
theorem q3454 : (Jvm.Cond.methodLink "RoseProverbsLaw" (217 : Nat) ({ cls := "RoseProverbsModel", name := "rightBy", desc := "(I)I" } : Jvm.MethodName)) ∈ lw_all := lw_g (lw_at lw_m14 202 rfl) rfl
theorem q3466 : (Jvm.Cond.methodLink "RoseProverbsLaw" (221 : Nat) ({ cls := "RoseProverbsModel", name := "bestRule", desc := "()I" } : Jvm.MethodName)) ∈ lw_all := lw_g (lw_at lw_m14 214 rfl) rfl
theorem q3470 : (Jvm.Cond.methodLink "RoseProverbsLaw" (224 : Nat) ({ cls := "RoseProverbsModel", name := "rightWith", desc := "(II)I" } : Jvm.MethodName)) ∈ lw_all := lw_g (lw_at lw_m14 218 rfl) rfl
theorem q3474 : (Jvm.Cond.methodLink "RoseProverbsLaw" (227 : Nat) ({ cls := "RoseProverbsModel", name := "harmOf", desc := "(I)I" } : Jvm.MethodName)) ∈ lw_all := lw_g (lw_at lw_m14 222 rfl) rfl
theorem q3478 : (Jvm.Cond.methodLink "RoseProverbsLaw" (230 : Nat) ({ cls := "RoseProverbsModel", name := "reachOf", desc := "(I)I" } : Jvm.MethodName)) ∈ lw_all := lw_g (lw_at lw_m14 226 rfl) rfl
theorem q3482 : (Jvm.Cond.methodLink "RoseProverbsLaw" (235 : Nat) ({ cls := "RoseProverbsModel", name := "agree", desc := "()Z" } : Jvm.MethodName)) ∈ lw_all := lw_g (lw_at lw_m14 230 rfl) rfl
theorem q3498 : (Jvm.Cond.methodLink "RoseProverbsLaw" (240 : Nat) ({ cls := "RoseProverbsModel", name := "truth", desc := "()D" } : Jvm.MethodName)) ∈ lw_all := lw_g (lw_at lw_m15 6 rfl) rfl
theorem q3502 : (Jvm.Cond.methodLink "RoseProverbsLaw" (245 : Nat) ({ cls := "RoseProverbsModel", name := "meanWeight", desc := "()F" } : Jvm.MethodName)) ∈ lw_all := lw_g (lw_at lw_m15 10 rfl) rfl
theorem q3506 : (Jvm.Cond.methodLink "RoseProverbsLaw" (248 : Nat) ({ cls := "RoseProverbsModel", name := "day", desc := "(II)I" } : Jvm.MethodName)) ∈ lw_all := lw_g (lw_at lw_m15 14 rfl) rfl
theorem q3510 : (Jvm.Cond.methodLink "RoseProverbsLaw" (252 : Nat) ({ cls := "RoseProverbsModel", name := "proverbNew", desc := "(IIIIII)I" } : Jvm.MethodName)) ∈ lw_all := lw_g (lw_at lw_m15 18 rfl) rfl
theorem q3514 : (Jvm.Cond.methodLink "RoseProverbsLaw" (255 : Nat) ({ cls := "RoseProverbsModel", name := "forget", desc := "(I)I" } : Jvm.MethodName)) ∈ lw_all := lw_g (lw_at lw_m15 22 rfl) rfl
theorem q3518 : (Jvm.Cond.methodLink "RoseProverbsLaw" (258 : Nat) ({ cls := "RoseProverbsModel", name := "weigh", desc := "(II)I" } : Jvm.MethodName)) ∈ lw_all := lw_g (lw_at lw_m15 26 rfl) rfl
theorem q3522 : (Jvm.Cond.methodLink "RoseProverbsLaw" (261 : Nat) ({ cls := "RoseProverbsModel", name := "set", desc := "(II)I" } : Jvm.MethodName)) ∈ lw_all := lw_g (lw_at lw_m15 30 rfl) rfl
theorem q3526 : (Jvm.Cond.methodLink "RoseProverbsLaw" (265 : Nat) ({ cls := "RoseProverbsModel", name := "undo", desc := "()I" } : Jvm.MethodName)) ∈ lw_all := lw_g (lw_at lw_m15 34 rfl) rfl
theorem q3530 : (Jvm.Cond.methodLink "RoseProverbsLaw" (268 : Nat) ({ cls := "RoseProverbsModel", name := "printMonth", desc := "(I)I" } : Jvm.MethodName)) ∈ lw_all := lw_g (lw_at lw_m15 38 rfl) rfl
theorem q3538 : (Jvm.Cond.methodLink "RoseProverbsLaw" (271 : Nat) ({ cls := "RoseProverbsModel", name := "printProverb", desc := "(I)I" } : Jvm.MethodName)) ∈ lw_all := lw_g (lw_at lw_m15 46 rfl) rfl
theorem q3546 : (Jvm.Cond.methodLink "RoseProverbsLaw" (275 : Nat) ({ cls := "RoseProverbsModel", name := "outputByte", desc := "(I)I" } : Jvm.MethodName)) ∈ lw_all := lw_g (lw_at lw_m15 54 rfl) rfl
theorem q3550 : (Jvm.Cond.methodLink "RoseProverbsLaw" (279 : Nat) ({ cls := "RoseProverbsModel", name := "saveState", desc := "()I" } : Jvm.MethodName)) ∈ lw_all := lw_g (lw_at lw_m15 58 rfl) rfl
theorem q3554 : (Jvm.Cond.methodLink "RoseProverbsLaw" (282 : Nat) ({ cls := "RoseProverbsModel", name := "restoreState", desc := "()I" } : Jvm.MethodName)) ∈ lw_all := lw_g (lw_at lw_m15 62 rfl) rfl
/-! the law's own entry -/
set_option maxRecDepth 100000
abbrev cL_law : ByteArray := code
def dkwL_law_106 : List UInt8 := [45, 3, 47, 21, 6, 133, 148, 153, 0, 5, 3, 172, 167, 0, 3, 132, 4, 7, 167, 245, 181, 4, 172]
abbrev dktL_law_106 : List UInt8 := dkwL_law_106 ++ []
def dkwL_law_105 : List UInt8 := [54, 5, 44, 182, 1, 26, 54, 6, 44, 182, 0, 154, 21, 5, 159, 0, 5, 3, 172, 21, 5, 154, 0, 15]
abbrev dktL_law_105 : List UInt8 := dkwL_law_105 ++ dktL_law_106
def dkwL_law_104 : List UInt8 := [159, 0, 62, 3, 172, 43, 182, 1, 20, 44, 182, 1, 23, 159, 0, 49, 3, 172, 43, 45, 184, 1, 24]
abbrev dktL_law_104 : List UInt8 := dkwL_law_104 ++ dktL_law_105
def dkwL_law_103 : List UInt8 := [167, 0, 85, 43, 42, 21, 4, 4, 96, 46, 182, 1, 16, 44, 42, 21, 4, 4, 96, 46, 182, 1, 19]
abbrev dktL_law_103 : List UInt8 := dkwL_law_103 ++ dktL_law_104
def dkwL_law_102 : List UInt8 := [21, 5, 159, 0, 5, 3, 172, 21, 5, 154, 0, 15, 45, 3, 47, 21, 6, 133, 148, 153, 0, 5, 3, 172]
abbrev dktL_law_102 : List UInt8 := dkwL_law_102 ++ dktL_law_103
def dkwL_law_101 : List UInt8 := [46, 45, 184, 1, 13, 54, 5, 44, 42, 21, 4, 4, 96, 46, 182, 1, 15, 54, 6, 44, 182, 0, 154]
abbrev dktL_law_101 : List UInt8 := dkwL_law_101 ++ dktL_law_102
def dkwL_law_100 : List UInt8 := [154, 0, 15, 45, 3, 47, 21, 6, 133, 148, 153, 0, 5, 3, 172, 167, 0, 141, 43, 42, 21, 4, 4, 96]
abbrev dktL_law_100 : List UInt8 := dkwL_law_100 ++ dktL_law_101
def dkwL_law_99 : List UInt8 := [21, 4, 4, 96, 46, 182, 1, 12, 54, 6, 44, 182, 0, 154, 21, 5, 159, 0, 5, 3, 172, 21, 5]
abbrev dktL_law_99 : List UInt8 := dkwL_law_99 ++ dktL_law_100
def dkwL_law_98 : List UInt8 := [148, 153, 0, 5, 3, 172, 167, 0, 197, 43, 42, 21, 4, 4, 96, 46, 45, 184, 1, 10, 54, 5, 44, 42]
abbrev dktL_law_98 : List UInt8 := dkwL_law_98 ++ dktL_law_99
def dkwL_law_97 : List UInt8 := [54, 6, 44, 182, 0, 154, 21, 5, 159, 0, 5, 3, 172, 21, 5, 154, 0, 15, 45, 3, 47, 21, 6, 133]
abbrev dktL_law_97 : List UInt8 := dkwL_law_97 ++ dktL_law_98
def dkwL_law_96 : List UInt8 := [21, 6, 133, 148, 153, 0, 5, 3, 172, 167, 0, 241, 43, 45, 184, 1, 6, 54, 5, 44, 182, 1, 9]
abbrev dktL_law_96 : List UInt8 := dkwL_law_96 ++ dktL_law_97
def dkwL_law_95 : List UInt8 := [182, 1, 5, 54, 6, 44, 182, 0, 154, 21, 5, 159, 0, 5, 3, 172, 21, 5, 154, 0, 15, 45, 3, 47]
abbrev dktL_law_95 : List UInt8 := dkwL_law_95 ++ dktL_law_96
def dkwL_law_94 : List UInt8 := [5, 96, 46, 45, 184, 1, 3, 54, 5, 44, 42, 21, 4, 4, 96, 46, 42, 21, 4, 5, 96, 46]
abbrev dktL_law_94 : List UInt8 := dkwL_law_94 ++ dktL_law_95
def dkwL_law_93 : List UInt8 := [3, 47, 21, 6, 133, 148, 153, 0, 5, 3, 172, 167, 1, 53, 43, 42, 21, 4, 4, 96, 46, 42, 21, 4]
abbrev dktL_law_93 : List UInt8 := dkwL_law_93 ++ dktL_law_94
def dkwL_law_92 : List UInt8 := [96, 46, 182, 1, 2, 54, 6, 44, 182, 0, 154, 21, 5, 159, 0, 5, 3, 172, 21, 5, 154, 0, 15, 45]
abbrev dktL_law_92 : List UInt8 := dkwL_law_92 ++ dktL_law_93
def dkwL_law_91 : List UInt8 := [46, 42, 21, 4, 5, 96, 46, 45, 184, 1, 0, 54, 5, 44, 42, 21, 4, 4, 96, 46, 42, 21, 4, 5]
abbrev dktL_law_91 : List UInt8 := dkwL_law_91 ++ dktL_law_92
def dkwL_law_90 : List UInt8 := [154, 0, 15, 45, 3, 47, 21, 6, 133, 148, 153, 0, 5, 3, 172, 167, 1, 121, 43, 42, 21, 4, 4, 96]
abbrev dktL_law_90 : List UInt8 := dkwL_law_90 ++ dktL_law_91
def dkwL_law_89 : List UInt8 := [21, 4, 4, 96, 46, 182, 0, 255, 54, 6, 44, 182, 0, 154, 21, 5, 159, 0, 5, 3, 172, 21, 5]
abbrev dktL_law_89 : List UInt8 := dkwL_law_89 ++ dktL_law_90
def dkwL_law_88 : List UInt8 := [153, 0, 5, 3, 172, 167, 1, 177, 43, 42, 21, 4, 4, 96, 46, 45, 184, 0, 253, 54, 5, 44, 42]
abbrev dktL_law_88 : List UInt8 := dkwL_law_88 ++ dktL_law_89
def dkwL_law_87 : List UInt8 := [44, 182, 0, 154, 21, 5, 159, 0, 5, 3, 172, 21, 5, 154, 0, 15, 45, 3, 47, 21, 6, 133, 148]
abbrev dktL_law_87 : List UInt8 := dkwL_law_87 ++ dktL_law_88
def dkwL_law_86 : List UInt8 := [42, 21, 4, 7, 96, 46, 42, 21, 4, 8, 96, 46, 42, 21, 4, 16, 6, 96, 46, 182, 0, 252, 54, 6]
abbrev dktL_law_86 : List UInt8 := dkwL_law_86 ++ dktL_law_87
def dkwL_law_85 : List UInt8 := [184, 0, 249, 54, 5, 44, 42, 21, 4, 4, 96, 46, 42, 21, 4, 5, 96, 46, 42, 21, 4, 6, 96, 46]
abbrev dktL_law_85 : List UInt8 := dkwL_law_85 ++ dktL_law_86
def dkwL_law_84 : List UInt8 := [6, 96, 46, 42, 21, 4, 7, 96, 46, 42, 21, 4, 8, 96, 46, 42, 21, 4, 16, 6, 96, 46, 45]
abbrev dktL_law_84 : List UInt8 := dkwL_law_84 ++ dktL_law_85
def dkwL_law_83 : List UInt8 := [153, 0, 5, 3, 172, 167, 2, 39, 43, 42, 21, 4, 4, 96, 46, 42, 21, 4, 5, 96, 46, 42, 21, 4]
abbrev dktL_law_83 : List UInt8 := dkwL_law_83 ++ dktL_law_84
def dkwL_law_82 : List UInt8 := [182, 0, 154, 21, 5, 159, 0, 5, 3, 172, 21, 5, 154, 0, 15, 45, 3, 47, 21, 6, 133, 148]
abbrev dktL_law_82 : List UInt8 := dkwL_law_82 ++ dktL_law_83
def dkwL_law_81 : List UInt8 := [184, 0, 246, 54, 5, 44, 42, 21, 4, 4, 96, 46, 42, 21, 4, 5, 96, 46, 182, 0, 248, 54, 6, 44]
abbrev dktL_law_81 : List UInt8 := dkwL_law_81 ++ dktL_law_82
def dkwL_law_80 : List UInt8 := [154, 0, 5, 3, 172, 167, 2, 107, 43, 42, 21, 4, 4, 96, 46, 42, 21, 4, 5, 96, 46, 45]
abbrev dktL_law_80 : List UInt8 := dkwL_law_80 ++ dktL_law_81
def dkwL_law_79 : List UInt8 := [57, 7, 24, 5, 24, 7, 151, 153, 0, 21, 24, 5, 24, 5, 151, 153, 0, 11, 24, 7, 24, 7, 151]
abbrev dktL_law_79 : List UInt8 := dkwL_law_79 ++ dktL_law_80
def dkwL_law_78 : List UInt8 := [24, 7, 151, 154, 0, 5, 3, 172, 167, 2, 150, 43, 182, 0, 241, 141, 57, 5, 44, 182, 0, 245, 141]
abbrev dktL_law_78 : List UInt8 := dkwL_law_78 ++ dktL_law_79
def dkwL_law_77 : List UInt8 := [182, 0, 240, 57, 7, 24, 5, 24, 7, 151, 153, 0, 21, 24, 5, 24, 5, 151, 153, 0, 11, 24, 7]
abbrev dktL_law_77 : List UInt8 := dkwL_law_77 ++ dktL_law_78
def dkwL_law_76 : List UInt8 := [167, 2, 204, 43, 182, 0, 231, 44, 182, 0, 235, 159, 2, 193, 3, 172, 43, 182, 0, 236, 57, 5, 44]
abbrev dktL_law_76 : List UInt8 := dkwL_law_76 ++ dktL_law_77
def dkwL_law_75 : List UInt8 := [21, 5, 159, 0, 5, 3, 172, 21, 5, 154, 0, 15, 45, 3, 47, 21, 6, 133, 148, 153, 0, 5, 3, 172]
abbrev dktL_law_75 : List UInt8 := dkwL_law_75 ++ dktL_law_76
def dkwL_law_74 : List UInt8 := [46, 45, 184, 0, 228, 54, 5, 44, 42, 21, 4, 4, 96, 46, 182, 0, 230, 54, 6, 44, 182, 0, 154]
abbrev dktL_law_74 : List UInt8 := dkwL_law_74 ++ dktL_law_75
def dkwL_law_73 : List UInt8 := [154, 0, 15, 45, 3, 47, 21, 6, 133, 148, 153, 0, 5, 3, 172, 167, 3, 4, 43, 42, 21, 4, 4, 96]
abbrev dktL_law_73 : List UInt8 := dkwL_law_73 ++ dktL_law_74
def dkwL_law_72 : List UInt8 := [21, 4, 4, 96, 46, 182, 0, 227, 54, 6, 44, 182, 0, 154, 21, 5, 159, 0, 5, 3, 172, 21, 5]
abbrev dktL_law_72 : List UInt8 := dkwL_law_72 ++ dktL_law_73
def dkwL_law_71 : List UInt8 := [153, 0, 5, 3, 172, 167, 3, 60, 43, 42, 21, 4, 4, 96, 46, 45, 184, 0, 225, 54, 5, 44, 42]
abbrev dktL_law_71 : List UInt8 := dkwL_law_71 ++ dktL_law_72
def dkwL_law_70 : List UInt8 := [182, 0, 154, 21, 5, 159, 0, 5, 3, 172, 21, 5, 154, 0, 15, 45, 3, 47, 21, 6, 133, 148]
abbrev dktL_law_70 : List UInt8 := dkwL_law_70 ++ dktL_law_71
def dkwL_law_69 : List UInt8 := [184, 0, 222, 54, 5, 44, 42, 21, 4, 4, 96, 46, 42, 21, 4, 5, 96, 46, 182, 0, 224, 54, 6, 44]
abbrev dktL_law_69 : List UInt8 := dkwL_law_69 ++ dktL_law_70
def dkwL_law_68 : List UInt8 := [182, 0, 221, 159, 3, 130, 3, 172, 43, 42, 21, 4, 4, 96, 46, 42, 21, 4, 5, 96, 46, 45]
abbrev dktL_law_68 : List UInt8 := dkwL_law_68 ++ dktL_law_69
def dkwL_law_67 : List UInt8 := [154, 0, 15, 45, 3, 47, 21, 6, 133, 148, 153, 0, 5, 3, 172, 167, 3, 141, 43, 182, 0, 218, 44]
abbrev dktL_law_67 : List UInt8 := dkwL_law_67 ++ dktL_law_68
def dkwL_law_66 : List UInt8 := [21, 4, 4, 96, 46, 182, 0, 217, 54, 6, 44, 182, 0, 154, 21, 5, 159, 0, 5, 3, 172, 21, 5]
abbrev dktL_law_66 : List UInt8 := dkwL_law_66 ++ dktL_law_67
def dkwL_law_65 : List UInt8 := [153, 0, 5, 3, 172, 167, 3, 197, 43, 42, 21, 4, 4, 96, 46, 45, 184, 0, 215, 54, 5, 44, 42]
abbrev dktL_law_65 : List UInt8 := dkwL_law_65 ++ dktL_law_66
def dkwL_law_64 : List UInt8 := [182, 0, 154, 21, 5, 159, 0, 5, 3, 172, 21, 5, 154, 0, 15, 45, 3, 47, 21, 6, 133, 148]
abbrev dktL_law_64 : List UInt8 := dkwL_law_64 ++ dktL_law_65
def dkwL_law_63 : List UInt8 := [42, 21, 4, 5, 96, 46, 42, 21, 4, 6, 96, 46, 42, 21, 4, 7, 96, 46, 182, 0, 214, 54, 6, 44]
abbrev dktL_law_63 : List UInt8 := dkwL_law_63 ++ dktL_law_64
def dkwL_law_62 : List UInt8 := [21, 4, 6, 96, 46, 42, 21, 4, 7, 96, 46, 45, 184, 0, 212, 54, 5, 44, 42, 21, 4, 4, 96, 46]
abbrev dktL_law_62 : List UInt8 := dkwL_law_62 ++ dktL_law_63
def dkwL_law_61 : List UInt8 := [148, 153, 0, 5, 3, 172, 167, 4, 33, 43, 42, 21, 4, 4, 96, 46, 42, 21, 4, 5, 96, 46, 42]
abbrev dktL_law_61 : List UInt8 := dkwL_law_61 ++ dktL_law_62
def dkwL_law_60 : List UInt8 := [54, 6, 44, 182, 0, 154, 21, 5, 159, 0, 5, 3, 172, 21, 5, 154, 0, 15, 45, 3, 47, 21, 6, 133]
abbrev dktL_law_60 : List UInt8 := dkwL_law_60 ++ dktL_law_61
def dkwL_law_59 : List UInt8 := [46, 45, 184, 0, 209, 54, 5, 44, 42, 21, 4, 4, 96, 46, 42, 21, 4, 5, 96, 46, 182, 0, 211]
abbrev dktL_law_59 : List UInt8 := dkwL_law_59 ++ dktL_law_60
def dkwL_law_58 : List UInt8 := [21, 6, 133, 148, 153, 0, 5, 3, 172, 167, 4, 101, 43, 42, 21, 4, 4, 96, 46, 42, 21, 4, 5, 96]
abbrev dktL_law_58 : List UInt8 := dkwL_law_58 ++ dktL_law_59
def dkwL_law_57 : List UInt8 := [182, 0, 208, 54, 6, 44, 182, 0, 154, 21, 5, 159, 0, 5, 3, 172, 21, 5, 154, 0, 15, 45, 3, 47]
abbrev dktL_law_57 : List UInt8 := dkwL_law_57 ++ dktL_law_58
def dkwL_law_56 : List UInt8 := [21, 4, 5, 96, 46, 45, 184, 0, 206, 54, 5, 44, 42, 21, 4, 4, 96, 46, 42, 21, 4, 5, 96, 46]
abbrev dktL_law_56 : List UInt8 := dkwL_law_56 ++ dktL_law_57
def dkwL_law_55 : List UInt8 := [45, 3, 47, 21, 6, 133, 148, 153, 0, 5, 3, 172, 167, 4, 169, 43, 42, 21, 4, 4, 96, 46, 42]
abbrev dktL_law_55 : List UInt8 := dkwL_law_55 ++ dktL_law_56
def dkwL_law_54 : List UInt8 := [5, 96, 46, 182, 0, 205, 54, 6, 44, 182, 0, 154, 21, 5, 159, 0, 5, 3, 172, 21, 5, 154, 0, 15]
abbrev dktL_law_54 : List UInt8 := dkwL_law_54 ++ dktL_law_55
def dkwL_law_53 : List UInt8 := [96, 46, 42, 21, 4, 5, 96, 46, 45, 184, 0, 203, 54, 5, 44, 42, 21, 4, 4, 96, 46, 42, 21, 4]
abbrev dktL_law_53 : List UInt8 := dkwL_law_53 ++ dktL_law_54
def dkwL_law_52 : List UInt8 := [46, 182, 0, 199, 44, 42, 21, 4, 4, 96, 46, 182, 0, 202, 159, 4, 239, 3, 172, 43, 42, 21, 4, 4]
abbrev dktL_law_52 : List UInt8 := dkwL_law_52 ++ dktL_law_53
def dkwL_law_51 : List UInt8 := [154, 0, 15, 45, 3, 47, 21, 6, 133, 148, 153, 0, 5, 3, 172, 167, 5, 6, 43, 42, 21, 4, 4, 96]
abbrev dktL_law_51 : List UInt8 := dkwL_law_51 ++ dktL_law_52
def dkwL_law_50 : List UInt8 := [21, 4, 4, 96, 46, 182, 0, 198, 54, 6, 44, 182, 0, 154, 21, 5, 159, 0, 5, 3, 172, 21, 5]
abbrev dktL_law_50 : List UInt8 := dkwL_law_50 ++ dktL_law_51
def dkwL_law_49 : List UInt8 := [153, 0, 5, 3, 172, 167, 5, 62, 43, 42, 21, 4, 4, 96, 46, 45, 184, 0, 196, 54, 5, 44, 42]
abbrev dktL_law_49 : List UInt8 := dkwL_law_49 ++ dktL_law_50
def dkwL_law_48 : List UInt8 := [182, 0, 154, 21, 5, 159, 0, 5, 3, 172, 21, 5, 154, 0, 15, 45, 3, 47, 21, 6, 133, 148]
abbrev dktL_law_48 : List UInt8 := dkwL_law_48 ++ dktL_law_49
def dkwL_law_47 : List UInt8 := [184, 0, 193, 54, 5, 44, 42, 21, 4, 4, 96, 46, 42, 21, 4, 5, 96, 46, 182, 0, 195, 54, 6, 44]
abbrev dktL_law_47 : List UInt8 := dkwL_law_47 ++ dktL_law_48
def dkwL_law_46 : List UInt8 := [148, 153, 0, 5, 3, 172, 167, 5, 130, 43, 42, 21, 4, 4, 96, 46, 42, 21, 4, 5, 96, 46, 45]
abbrev dktL_law_46 : List UInt8 := dkwL_law_46 ++ dktL_law_47
def dkwL_law_45 : List UInt8 := [54, 6, 44, 182, 0, 154, 21, 5, 159, 0, 5, 3, 172, 21, 5, 154, 0, 15, 45, 3, 47, 21, 6, 133]
abbrev dktL_law_45 : List UInt8 := dkwL_law_45 ++ dktL_law_46
def dkwL_law_44 : List UInt8 := [96, 46, 45, 184, 0, 190, 54, 5, 44, 42, 21, 4, 4, 96, 46, 42, 21, 4, 5, 96, 46, 182, 0, 192]
abbrev dktL_law_44 : List UInt8 := dkwL_law_44 ++ dktL_law_45
def dkwL_law_43 : List UInt8 := [167, 0, 4, 9, 148, 153, 0, 5, 3, 172, 167, 5, 198, 43, 42, 21, 4, 4, 96, 46, 42, 21, 4, 5]
abbrev dktL_law_43 : List UInt8 := dkwL_law_43 ++ dktL_law_44
def dkwL_law_42 : List UInt8 := [182, 0, 154, 21, 5, 159, 0, 5, 3, 172, 21, 5, 154, 0, 22, 45, 3, 47, 21, 6, 153, 0, 7, 10]
abbrev dktL_law_42 : List UInt8 := dkwL_law_42 ++ dktL_law_43
def dkwL_law_41 : List UInt8 := [184, 0, 187, 54, 5, 44, 42, 21, 4, 4, 96, 46, 42, 21, 4, 5, 96, 46, 182, 0, 189, 54, 6, 44]
abbrev dktL_law_41 : List UInt8 := dkwL_law_41 ++ dktL_law_42
def dkwL_law_40 : List UInt8 := [153, 0, 5, 3, 172, 167, 6, 17, 43, 42, 21, 4, 4, 96, 46, 42, 21, 4, 5, 96, 46, 45]
abbrev dktL_law_40 : List UInt8 := dkwL_law_40 ++ dktL_law_41
def dkwL_law_39 : List UInt8 := [182, 0, 154, 21, 5, 159, 0, 5, 3, 172, 21, 5, 154, 0, 15, 45, 3, 47, 21, 6, 133, 148]
abbrev dktL_law_39 : List UInt8 := dkwL_law_39 ++ dktL_law_40
def dkwL_law_38 : List UInt8 := [21, 4, 5, 96, 46, 42, 21, 4, 6, 96, 46, 42, 21, 4, 7, 96, 46, 182, 0, 186, 54, 6, 44]
abbrev dktL_law_38 : List UInt8 := dkwL_law_38 ++ dktL_law_39
def dkwL_law_37 : List UInt8 := [6, 96, 46, 42, 21, 4, 7, 96, 46, 45, 184, 0, 183, 54, 5, 44, 42, 21, 4, 4, 96, 46, 42]
abbrev dktL_law_37 : List UInt8 := dkwL_law_37 ++ dktL_law_38
def dkwL_law_36 : List UInt8 := [153, 0, 5, 3, 172, 167, 6, 109, 43, 42, 21, 4, 4, 96, 46, 42, 21, 4, 5, 96, 46, 42, 21, 4]
abbrev dktL_law_36 : List UInt8 := dkwL_law_36 ++ dktL_law_37
def dkwL_law_35 : List UInt8 := [182, 0, 154, 21, 5, 159, 0, 5, 3, 172, 21, 5, 154, 0, 15, 45, 3, 47, 21, 6, 133, 148]
abbrev dktL_law_35 : List UInt8 := dkwL_law_35 ++ dktL_law_36
def dkwL_law_34 : List UInt8 := [184, 0, 180, 54, 5, 44, 42, 21, 4, 4, 96, 46, 42, 21, 4, 5, 96, 46, 182, 0, 182, 54, 6, 44]
abbrev dktL_law_34 : List UInt8 := dkwL_law_34 ++ dktL_law_35
def dkwL_law_33 : List UInt8 := [148, 153, 0, 5, 3, 172, 167, 6, 177, 43, 42, 21, 4, 4, 96, 46, 42, 21, 4, 5, 96, 46, 45]
abbrev dktL_law_33 : List UInt8 := dkwL_law_33 ++ dktL_law_34
def dkwL_law_32 : List UInt8 := [54, 6, 44, 182, 0, 154, 21, 5, 159, 0, 5, 3, 172, 21, 5, 154, 0, 15, 45, 3, 47, 21, 6, 133]
abbrev dktL_law_32 : List UInt8 := dkwL_law_32 ++ dktL_law_33
def dkwL_law_31 : List UInt8 := [46, 45, 184, 0, 177, 54, 5, 44, 42, 21, 4, 4, 96, 46, 42, 21, 4, 5, 96, 46, 182, 0, 179]
abbrev dktL_law_31 : List UInt8 := dkwL_law_31 ++ dktL_law_32
def dkwL_law_30 : List UInt8 := [21, 6, 133, 148, 153, 0, 5, 3, 172, 167, 6, 245, 43, 42, 21, 4, 4, 96, 46, 42, 21, 4, 5, 96]
abbrev dktL_law_30 : List UInt8 := dkwL_law_30 ++ dktL_law_31
def dkwL_law_29 : List UInt8 := [182, 0, 176, 54, 6, 44, 182, 0, 154, 21, 5, 159, 0, 5, 3, 172, 21, 5, 154, 0, 15, 45, 3, 47]
abbrev dktL_law_29 : List UInt8 := dkwL_law_29 ++ dktL_law_30
def dkwL_law_28 : List UInt8 := [184, 0, 174, 54, 5, 44, 42, 21, 4, 4, 96, 46, 42, 21, 4, 5, 96, 46, 42, 21, 4, 6, 96, 46]
abbrev dktL_law_28 : List UInt8 := dkwL_law_28 ++ dktL_law_29
def dkwL_law_27 : List UInt8 := [167, 7, 69, 43, 42, 21, 4, 4, 96, 46, 42, 21, 4, 5, 96, 46, 42, 21, 4, 6, 96, 46, 45]
abbrev dktL_law_27 : List UInt8 := dkwL_law_27 ++ dktL_law_28
def dkwL_law_26 : List UInt8 := [159, 0, 5, 3, 172, 21, 5, 154, 0, 15, 45, 3, 47, 21, 6, 133, 148, 153, 0, 5, 3, 172]
abbrev dktL_law_26 : List UInt8 := dkwL_law_26 ++ dktL_law_27
def dkwL_law_25 : List UInt8 := [42, 21, 4, 5, 96, 46, 42, 21, 4, 6, 96, 46, 182, 0, 173, 54, 6, 44, 182, 0, 154, 21, 5]
abbrev dktL_law_25 : List UInt8 := dkwL_law_25 ++ dktL_law_26
def dkwL_law_24 : List UInt8 := [21, 4, 5, 96, 46, 42, 21, 4, 6, 96, 46, 45, 184, 0, 171, 54, 5, 44, 42, 21, 4, 4, 96, 46]
abbrev dktL_law_24 : List UInt8 := dkwL_law_24 ++ dktL_law_25
def dkwL_law_23 : List UInt8 := [45, 3, 47, 21, 6, 133, 148, 153, 0, 5, 3, 172, 167, 7, 149, 43, 42, 21, 4, 4, 96, 46, 42]
abbrev dktL_law_23 : List UInt8 := dkwL_law_23 ++ dktL_law_24
def dkwL_law_22 : List UInt8 := [5, 96, 46, 182, 0, 170, 54, 6, 44, 182, 0, 154, 21, 5, 159, 0, 5, 3, 172, 21, 5, 154, 0, 15]
abbrev dktL_law_22 : List UInt8 := dkwL_law_22 ++ dktL_law_23
def dkwL_law_21 : List UInt8 := [96, 46, 42, 21, 4, 5, 96, 46, 45, 184, 0, 168, 54, 5, 44, 42, 21, 4, 4, 96, 46, 42, 21, 4]
abbrev dktL_law_21 : List UInt8 := dkwL_law_21 ++ dktL_law_22
def dkwL_law_20 : List UInt8 := [21, 6, 153, 0, 7, 10, 167, 0, 4, 9, 148, 153, 0, 5, 3, 172, 167, 7, 217, 43, 42, 21, 4, 4]
abbrev dktL_law_20 : List UInt8 := dkwL_law_20 ++ dktL_law_21
def dkwL_law_19 : List UInt8 := [182, 0, 167, 54, 6, 44, 182, 0, 154, 21, 5, 159, 0, 5, 3, 172, 21, 5, 154, 0, 22, 45, 3, 47]
abbrev dktL_law_19 : List UInt8 := dkwL_law_19 ++ dktL_law_20
def dkwL_law_18 : List UInt8 := [184, 0, 164, 54, 5, 44, 42, 21, 4, 4, 96, 46, 42, 21, 4, 5, 96, 46, 42, 21, 4, 6, 96, 46]
abbrev dktL_law_18 : List UInt8 := dkwL_law_18 ++ dktL_law_19
def dkwL_law_17 : List UInt8 := [167, 8, 48, 43, 42, 21, 4, 4, 96, 46, 42, 21, 4, 5, 96, 46, 42, 21, 4, 6, 96, 46, 45]
abbrev dktL_law_17 : List UInt8 := dkwL_law_17 ++ dktL_law_18
def dkwL_law_16 : List UInt8 := [159, 0, 5, 3, 172, 21, 5, 154, 0, 15, 45, 3, 47, 21, 6, 133, 148, 153, 0, 5, 3, 172]
abbrev dktL_law_16 : List UInt8 := dkwL_law_16 ++ dktL_law_17
def dkwL_law_15 : List UInt8 := [21, 4, 4, 96, 46, 42, 21, 4, 5, 96, 46, 182, 0, 163, 54, 6, 44, 182, 0, 154, 21, 5]
abbrev dktL_law_15 : List UInt8 := dkwL_law_15 ++ dktL_law_16
def dkwL_law_14 : List UInt8 := [167, 8, 116, 43, 42, 21, 4, 4, 96, 46, 42, 21, 4, 5, 96, 46, 45, 184, 0, 160, 54, 5, 44, 42]
abbrev dktL_law_14 : List UInt8 := dkwL_law_14 ++ dktL_law_15
def dkwL_law_13 : List UInt8 := [21, 5, 159, 0, 5, 3, 172, 21, 5, 154, 0, 15, 45, 3, 47, 21, 6, 133, 148, 153, 0, 5, 3, 172]
abbrev dktL_law_13 : List UInt8 := dkwL_law_13 ++ dktL_law_14
def dkwL_law_12 : List UInt8 := [46, 45, 184, 0, 157, 54, 5, 44, 42, 21, 4, 4, 96, 46, 182, 0, 159, 54, 6, 44, 182, 0, 154]
abbrev dktL_law_12 : List UInt8 := dkwL_law_12 ++ dktL_law_13
def dkwL_law_11 : List UInt8 := [154, 0, 15, 45, 3, 47, 21, 6, 133, 148, 153, 0, 5, 3, 172, 167, 8, 172, 43, 42, 21, 4, 4, 96]
abbrev dktL_law_11 : List UInt8 := dkwL_law_11 ++ dktL_law_12
def dkwL_law_10 : List UInt8 := [21, 4, 4, 96, 46, 182, 0, 153, 54, 6, 44, 182, 0, 154, 21, 5, 159, 0, 5, 3, 172, 21, 5]
abbrev dktL_law_10 : List UInt8 := dkwL_law_10 ++ dktL_law_11
def dkwL_law_9 : List UInt8 := [182, 0, 147, 159, 8, 230, 3, 172, 43, 42, 21, 4, 4, 96, 46, 45, 184, 0, 148, 54, 5, 44, 42]
abbrev dktL_law_9 : List UInt8 := dkwL_law_9 ++ dktL_law_10
def dkwL_law_8 : List UInt8 := [159, 9, 0, 3, 172, 43, 182, 0, 140, 44, 182, 0, 143, 159, 8, 243, 3, 172, 43, 182, 0, 144, 44]
abbrev dktL_law_8 : List UInt8 := dkwL_law_8 ++ dktL_law_9
def dkwL_law_7 : List UInt8 := [3, 172, 43, 182, 0, 132, 44, 182, 0, 135, 159, 9, 13, 3, 172, 43, 182, 0, 136, 44, 182, 0, 139]
abbrev dktL_law_7 : List UInt8 := dkwL_law_7 ++ dktL_law_8
def dkwL_law_6 : List UInt8 := [172, 43, 42, 21, 4, 4, 96, 46, 182, 0, 127, 44, 42, 21, 4, 4, 96, 46, 182, 0, 131, 159, 9, 26]
abbrev dktL_law_6 : List UInt8 := dkwL_law_6 ++ dktL_law_7
def dkwL_law_5 : List UInt8 := [21, 4, 6, 96, 46, 42, 21, 4, 7, 96, 46, 42, 21, 4, 8, 96, 46, 182, 0, 126, 159, 9, 51, 3]
abbrev dktL_law_5 : List UInt8 := dkwL_law_5 ++ dktL_law_6
def dkwL_law_4 : List UInt8 := [46, 42, 21, 4, 8, 96, 46, 182, 0, 122, 44, 42, 21, 4, 4, 96, 46, 42, 21, 4, 5, 96, 46, 42]
abbrev dktL_law_4 : List UInt8 := dkwL_law_4 ++ dktL_law_5
def dkwL_law_3 : List UInt8 := [43, 42, 21, 4, 4, 96, 46, 42, 21, 4, 5, 96, 46, 42, 21, 4, 6, 96, 46, 42, 21, 4, 7, 96]
abbrev dktL_law_3 : List UInt8 := dkwL_law_3 ++ dktL_law_4
def dkwL_law_2 : List UInt8 := [170, 0, 0, 0, 0, 0, 10, 55, 0, 0, 0, 0, 0, 0, 0, 43, 0, 0, 0, 192, 0, 0, 1, 9, 0, 0, 1, 34, 0, 0, 1, 47, 0, 0, 1, 60, 0, 0, 1, 73, 0, 0, 1, 86, 0, 0, 1, 142, 0, 0, 1, 198, 0, 0, 2, 10, 0, 0, 2, 97, 0, 0, 2, 165, 0, 0, 2, 245, 0, 0, 3, 69, 0, 0, 3, 137, 0, 0, 3, 205, 0, 0, 4, 41, 0, 0, 4, 116, 0, 0, 4, 184, 0, 0, 4, 252, 0, 0, 5, 52, 0, 0, 5, 77, 0, 0, 5, 145, 0, 0, 5, 213, 0, 0, 6, 25, 0, 0, 6, 117, 0, 0, 6, 173, 0, 0, 6, 186, 0, 0, 6, 254, 0, 0, 7, 54, 0, 0, 7, 110, 0, 0, 7, 123, 0, 0, 7, 164, 0, 0, 7, 207, 0, 0, 8, 19, 0, 0, 8, 137, 0, 0, 8, 193, 0, 0, 9, 5, 0, 0, 9, 73, 0, 0, 9, 117, 0, 0, 9, 173, 0, 0, 9, 229, 0, 0, 9, 254, 0, 0, 10, 11]
abbrev dktL_law_2 : List UInt8 := dkwL_law_2 ++ dktL_law_3
def dkwL_law_1 : List UInt8 := [21, 4, 42, 190, 16, 7, 100, 163, 10, 71, 42, 21, 4, 46, 16, 63, 126]
abbrev dktL_law_1 : List UInt8 := dkwL_law_1 ++ dktL_law_2
def dkwL_law_0 : List UInt8 := [187, 0, 8, 89, 183, 0, 118, 76, 187, 0, 119, 89, 183, 0, 121, 77, 4, 188, 11, 78, 3, 54, 4]
abbrev dktL_law_0 : List UInt8 := dkwL_law_0 ++ dktL_law_1
theorem dksL_law_0 : cL_law.data.toList.drop 0 = dktL_law_0 := by decide +kernel
theorem dksL_law_1 : cL_law.data.toList.drop 23 = dktL_law_1 := dk_seg dksL_law_0 23 rfl rfl
theorem dksL_law_2 : cL_law.data.toList.drop 40 = dktL_law_2 := dk_seg dksL_law_1 17 rfl rfl
theorem dksL_law_3 : cL_law.data.toList.drop 232 = dktL_law_3 := dk_seg dksL_law_2 192 rfl rfl
theorem dksL_law_4 : cL_law.data.toList.drop 256 = dktL_law_4 := dk_seg dksL_law_3 24 rfl rfl
theorem dksL_law_5 : cL_law.data.toList.drop 280 = dktL_law_5 := dk_seg dksL_law_4 24 rfl rfl
theorem dksL_law_6 : cL_law.data.toList.drop 304 = dktL_law_6 := dk_seg dksL_law_5 24 rfl rfl
theorem dksL_law_7 : cL_law.data.toList.drop 328 = dktL_law_7 := dk_seg dksL_law_6 24 rfl rfl
theorem dksL_law_8 : cL_law.data.toList.drop 351 = dktL_law_8 := dk_seg dksL_law_7 23 rfl rfl
theorem dksL_law_9 : cL_law.data.toList.drop 374 = dktL_law_9 := dk_seg dksL_law_8 23 rfl rfl
theorem dksL_law_10 : cL_law.data.toList.drop 397 = dktL_law_10 := dk_seg dksL_law_9 23 rfl rfl
theorem dksL_law_11 : cL_law.data.toList.drop 420 = dktL_law_11 := dk_seg dksL_law_10 23 rfl rfl
theorem dksL_law_12 : cL_law.data.toList.drop 444 = dktL_law_12 := dk_seg dksL_law_11 24 rfl rfl
theorem dksL_law_13 : cL_law.data.toList.drop 467 = dktL_law_13 := dk_seg dksL_law_12 23 rfl rfl
theorem dksL_law_14 : cL_law.data.toList.drop 491 = dktL_law_14 := dk_seg dksL_law_13 24 rfl rfl
theorem dksL_law_15 : cL_law.data.toList.drop 515 = dktL_law_15 := dk_seg dksL_law_14 24 rfl rfl
theorem dksL_law_16 : cL_law.data.toList.drop 537 = dktL_law_16 := dk_seg dksL_law_15 22 rfl rfl
theorem dksL_law_17 : cL_law.data.toList.drop 559 = dktL_law_17 := dk_seg dksL_law_16 22 rfl rfl
theorem dksL_law_18 : cL_law.data.toList.drop 582 = dktL_law_18 := dk_seg dksL_law_17 23 rfl rfl
theorem dksL_law_19 : cL_law.data.toList.drop 606 = dktL_law_19 := dk_seg dksL_law_18 24 rfl rfl
theorem dksL_law_20 : cL_law.data.toList.drop 630 = dktL_law_20 := dk_seg dksL_law_19 24 rfl rfl
theorem dksL_law_21 : cL_law.data.toList.drop 654 = dktL_law_21 := dk_seg dksL_law_20 24 rfl rfl
theorem dksL_law_22 : cL_law.data.toList.drop 678 = dktL_law_22 := dk_seg dksL_law_21 24 rfl rfl
theorem dksL_law_23 : cL_law.data.toList.drop 702 = dktL_law_23 := dk_seg dksL_law_22 24 rfl rfl
theorem dksL_law_24 : cL_law.data.toList.drop 725 = dktL_law_24 := dk_seg dksL_law_23 23 rfl rfl
theorem dksL_law_25 : cL_law.data.toList.drop 749 = dktL_law_25 := dk_seg dksL_law_24 24 rfl rfl
theorem dksL_law_26 : cL_law.data.toList.drop 772 = dktL_law_26 := dk_seg dksL_law_25 23 rfl rfl
theorem dksL_law_27 : cL_law.data.toList.drop 794 = dktL_law_27 := dk_seg dksL_law_26 22 rfl rfl
theorem dksL_law_28 : cL_law.data.toList.drop 817 = dktL_law_28 := dk_seg dksL_law_27 23 rfl rfl
theorem dksL_law_29 : cL_law.data.toList.drop 841 = dktL_law_29 := dk_seg dksL_law_28 24 rfl rfl
theorem dksL_law_30 : cL_law.data.toList.drop 865 = dktL_law_30 := dk_seg dksL_law_29 24 rfl rfl
theorem dksL_law_31 : cL_law.data.toList.drop 889 = dktL_law_31 := dk_seg dksL_law_30 24 rfl rfl
theorem dksL_law_32 : cL_law.data.toList.drop 912 = dktL_law_32 := dk_seg dksL_law_31 23 rfl rfl
theorem dksL_law_33 : cL_law.data.toList.drop 936 = dktL_law_33 := dk_seg dksL_law_32 24 rfl rfl
theorem dksL_law_34 : cL_law.data.toList.drop 959 = dktL_law_34 := dk_seg dksL_law_33 23 rfl rfl
theorem dksL_law_35 : cL_law.data.toList.drop 983 = dktL_law_35 := dk_seg dksL_law_34 24 rfl rfl
theorem dksL_law_36 : cL_law.data.toList.drop 1005 = dktL_law_36 := dk_seg dksL_law_35 22 rfl rfl
theorem dksL_law_37 : cL_law.data.toList.drop 1029 = dktL_law_37 := dk_seg dksL_law_36 24 rfl rfl
theorem dksL_law_38 : cL_law.data.toList.drop 1052 = dktL_law_38 := dk_seg dksL_law_37 23 rfl rfl
theorem dksL_law_39 : cL_law.data.toList.drop 1075 = dktL_law_39 := dk_seg dksL_law_38 23 rfl rfl
theorem dksL_law_40 : cL_law.data.toList.drop 1097 = dktL_law_40 := dk_seg dksL_law_39 22 rfl rfl
theorem dksL_law_41 : cL_law.data.toList.drop 1119 = dktL_law_41 := dk_seg dksL_law_40 22 rfl rfl
theorem dksL_law_42 : cL_law.data.toList.drop 1143 = dktL_law_42 := dk_seg dksL_law_41 24 rfl rfl
theorem dksL_law_43 : cL_law.data.toList.drop 1167 = dktL_law_43 := dk_seg dksL_law_42 24 rfl rfl
theorem dksL_law_44 : cL_law.data.toList.drop 1191 = dktL_law_44 := dk_seg dksL_law_43 24 rfl rfl
theorem dksL_law_45 : cL_law.data.toList.drop 1215 = dktL_law_45 := dk_seg dksL_law_44 24 rfl rfl
theorem dksL_law_46 : cL_law.data.toList.drop 1239 = dktL_law_46 := dk_seg dksL_law_45 24 rfl rfl
theorem dksL_law_47 : cL_law.data.toList.drop 1262 = dktL_law_47 := dk_seg dksL_law_46 23 rfl rfl
theorem dksL_law_48 : cL_law.data.toList.drop 1286 = dktL_law_48 := dk_seg dksL_law_47 24 rfl rfl
theorem dksL_law_49 : cL_law.data.toList.drop 1308 = dktL_law_49 := dk_seg dksL_law_48 22 rfl rfl
theorem dksL_law_50 : cL_law.data.toList.drop 1331 = dktL_law_50 := dk_seg dksL_law_49 23 rfl rfl
theorem dksL_law_51 : cL_law.data.toList.drop 1354 = dktL_law_51 := dk_seg dksL_law_50 23 rfl rfl
theorem dksL_law_52 : cL_law.data.toList.drop 1378 = dktL_law_52 := dk_seg dksL_law_51 24 rfl rfl
theorem dksL_law_53 : cL_law.data.toList.drop 1402 = dktL_law_53 := dk_seg dksL_law_52 24 rfl rfl
theorem dksL_law_54 : cL_law.data.toList.drop 1426 = dktL_law_54 := dk_seg dksL_law_53 24 rfl rfl
theorem dksL_law_55 : cL_law.data.toList.drop 1450 = dktL_law_55 := dk_seg dksL_law_54 24 rfl rfl
theorem dksL_law_56 : cL_law.data.toList.drop 1473 = dktL_law_56 := dk_seg dksL_law_55 23 rfl rfl
theorem dksL_law_57 : cL_law.data.toList.drop 1497 = dktL_law_57 := dk_seg dksL_law_56 24 rfl rfl
theorem dksL_law_58 : cL_law.data.toList.drop 1521 = dktL_law_58 := dk_seg dksL_law_57 24 rfl rfl
theorem dksL_law_59 : cL_law.data.toList.drop 1545 = dktL_law_59 := dk_seg dksL_law_58 24 rfl rfl
theorem dksL_law_60 : cL_law.data.toList.drop 1568 = dktL_law_60 := dk_seg dksL_law_59 23 rfl rfl
theorem dksL_law_61 : cL_law.data.toList.drop 1592 = dktL_law_61 := dk_seg dksL_law_60 24 rfl rfl
theorem dksL_law_62 : cL_law.data.toList.drop 1615 = dktL_law_62 := dk_seg dksL_law_61 23 rfl rfl
theorem dksL_law_63 : cL_law.data.toList.drop 1639 = dktL_law_63 := dk_seg dksL_law_62 24 rfl rfl
theorem dksL_law_64 : cL_law.data.toList.drop 1663 = dktL_law_64 := dk_seg dksL_law_63 24 rfl rfl
theorem dksL_law_65 : cL_law.data.toList.drop 1685 = dktL_law_65 := dk_seg dksL_law_64 22 rfl rfl
theorem dksL_law_66 : cL_law.data.toList.drop 1708 = dktL_law_66 := dk_seg dksL_law_65 23 rfl rfl
theorem dksL_law_67 : cL_law.data.toList.drop 1731 = dktL_law_67 := dk_seg dksL_law_66 23 rfl rfl
theorem dksL_law_68 : cL_law.data.toList.drop 1754 = dktL_law_68 := dk_seg dksL_law_67 23 rfl rfl
theorem dksL_law_69 : cL_law.data.toList.drop 1776 = dktL_law_69 := dk_seg dksL_law_68 22 rfl rfl
theorem dksL_law_70 : cL_law.data.toList.drop 1800 = dktL_law_70 := dk_seg dksL_law_69 24 rfl rfl
theorem dksL_law_71 : cL_law.data.toList.drop 1822 = dktL_law_71 := dk_seg dksL_law_70 22 rfl rfl
theorem dksL_law_72 : cL_law.data.toList.drop 1845 = dktL_law_72 := dk_seg dksL_law_71 23 rfl rfl
theorem dksL_law_73 : cL_law.data.toList.drop 1868 = dktL_law_73 := dk_seg dksL_law_72 23 rfl rfl
theorem dksL_law_74 : cL_law.data.toList.drop 1892 = dktL_law_74 := dk_seg dksL_law_73 24 rfl rfl
theorem dksL_law_75 : cL_law.data.toList.drop 1915 = dktL_law_75 := dk_seg dksL_law_74 23 rfl rfl
theorem dksL_law_76 : cL_law.data.toList.drop 1939 = dktL_law_76 := dk_seg dksL_law_75 24 rfl rfl
theorem dksL_law_77 : cL_law.data.toList.drop 1962 = dktL_law_77 := dk_seg dksL_law_76 23 rfl rfl
theorem dksL_law_78 : cL_law.data.toList.drop 1985 = dktL_law_78 := dk_seg dksL_law_77 23 rfl rfl
theorem dksL_law_79 : cL_law.data.toList.drop 2008 = dktL_law_79 := dk_seg dksL_law_78 23 rfl rfl
theorem dksL_law_80 : cL_law.data.toList.drop 2031 = dktL_law_80 := dk_seg dksL_law_79 23 rfl rfl
theorem dksL_law_81 : cL_law.data.toList.drop 2053 = dktL_law_81 := dk_seg dksL_law_80 22 rfl rfl
theorem dksL_law_82 : cL_law.data.toList.drop 2077 = dktL_law_82 := dk_seg dksL_law_81 24 rfl rfl
theorem dksL_law_83 : cL_law.data.toList.drop 2099 = dktL_law_83 := dk_seg dksL_law_82 22 rfl rfl
theorem dksL_law_84 : cL_law.data.toList.drop 2123 = dktL_law_84 := dk_seg dksL_law_83 24 rfl rfl
theorem dksL_law_85 : cL_law.data.toList.drop 2146 = dktL_law_85 := dk_seg dksL_law_84 23 rfl rfl
theorem dksL_law_86 : cL_law.data.toList.drop 2170 = dktL_law_86 := dk_seg dksL_law_85 24 rfl rfl
theorem dksL_law_87 : cL_law.data.toList.drop 2194 = dktL_law_87 := dk_seg dksL_law_86 24 rfl rfl
theorem dksL_law_88 : cL_law.data.toList.drop 2217 = dktL_law_88 := dk_seg dksL_law_87 23 rfl rfl
theorem dksL_law_89 : cL_law.data.toList.drop 2240 = dktL_law_89 := dk_seg dksL_law_88 23 rfl rfl
theorem dksL_law_90 : cL_law.data.toList.drop 2263 = dktL_law_90 := dk_seg dksL_law_89 23 rfl rfl
theorem dksL_law_91 : cL_law.data.toList.drop 2287 = dktL_law_91 := dk_seg dksL_law_90 24 rfl rfl
theorem dksL_law_92 : cL_law.data.toList.drop 2311 = dktL_law_92 := dk_seg dksL_law_91 24 rfl rfl
theorem dksL_law_93 : cL_law.data.toList.drop 2335 = dktL_law_93 := dk_seg dksL_law_92 24 rfl rfl
theorem dksL_law_94 : cL_law.data.toList.drop 2359 = dktL_law_94 := dk_seg dksL_law_93 24 rfl rfl
theorem dksL_law_95 : cL_law.data.toList.drop 2381 = dktL_law_95 := dk_seg dksL_law_94 22 rfl rfl
theorem dksL_law_96 : cL_law.data.toList.drop 2405 = dktL_law_96 := dk_seg dksL_law_95 24 rfl rfl
theorem dksL_law_97 : cL_law.data.toList.drop 2428 = dktL_law_97 := dk_seg dksL_law_96 23 rfl rfl
theorem dksL_law_98 : cL_law.data.toList.drop 2452 = dktL_law_98 := dk_seg dksL_law_97 24 rfl rfl
theorem dksL_law_99 : cL_law.data.toList.drop 2476 = dktL_law_99 := dk_seg dksL_law_98 24 rfl rfl
theorem dksL_law_100 : cL_law.data.toList.drop 2499 = dktL_law_100 := dk_seg dksL_law_99 23 rfl rfl
theorem dksL_law_101 : cL_law.data.toList.drop 2523 = dktL_law_101 := dk_seg dksL_law_100 24 rfl rfl
theorem dksL_law_102 : cL_law.data.toList.drop 2546 = dktL_law_102 := dk_seg dksL_law_101 23 rfl rfl
theorem dksL_law_103 : cL_law.data.toList.drop 2570 = dktL_law_103 := dk_seg dksL_law_102 24 rfl rfl
theorem dksL_law_104 : cL_law.data.toList.drop 2593 = dktL_law_104 := dk_seg dksL_law_103 23 rfl rfl
theorem dksL_law_105 : cL_law.data.toList.drop 2616 = dktL_law_105 := dk_seg dksL_law_104 23 rfl rfl
theorem dksL_law_106 : cL_law.data.toList.drop 2640 = dktL_law_106 := dk_seg dksL_law_105 24 rfl rfl
theorem dL_law_0 : decode cL_law 0 = .ok (.new 8, 3) := dk_187 0 8 (dk_at dksL_law_0 0 rfl rfl)
theorem dL_law_3 : decode cL_law 3 = .ok (.dup, 1) := dk_89 (dk_at dksL_law_0 3 rfl rfl)
theorem dL_law_4 : decode cL_law 4 = .ok (.invokespecial 118, 3) := dk_183 0 118 (dk_at dksL_law_0 4 rfl rfl)
theorem dL_law_7 : decode cL_law 7 = .ok (.astore_n 1, 1) := dk_76 (dk_at dksL_law_0 7 rfl rfl)
theorem dL_law_8 : decode cL_law 8 = .ok (.new 119, 3) := dk_187 0 119 (dk_at dksL_law_0 8 rfl rfl)
theorem dL_law_11 : decode cL_law 11 = .ok (.dup, 1) := dk_89 (dk_at dksL_law_0 11 rfl rfl)
theorem dL_law_12 : decode cL_law 12 = .ok (.invokespecial 121, 3) := dk_183 0 121 (dk_at dksL_law_0 12 rfl rfl)
theorem dL_law_15 : decode cL_law 15 = .ok (.astore_n 2, 1) := dk_77 (dk_at dksL_law_0 15 rfl rfl)
theorem dL_law_16 : decode cL_law 16 = .ok (.iconst 1, 1) := dk_4 (dk_at dksL_law_0 16 rfl rfl)
theorem dL_law_17 : decode cL_law 17 = .ok (.newarray .long, 2) := dk_188_11 (dk_at dksL_law_0 17 rfl rfl)
theorem dL_law_19 : decode cL_law 19 = .ok (.astore_n 3, 1) := dk_78 (dk_at dksL_law_0 19 rfl rfl)
theorem dL_law_20 : decode cL_law 20 = .ok (.iconst 0, 1) := dk_3 (dk_at dksL_law_0 20 rfl rfl)
theorem dL_law_21 : decode cL_law 21 = .ok (.istore 4, 2) := dk_54 4 (dk_at dksL_law_0 21 rfl rfl)
theorem dL_law_23 : decode cL_law 23 = .ok (.iload 4, 2) := dk_21 4 (dk_at dksL_law_1 0 rfl rfl)
theorem dL_law_25 : decode cL_law 25 = .ok (.aload_n 0, 1) := dk_42 (dk_at dksL_law_1 2 rfl rfl)
theorem dL_law_26 : decode cL_law 26 = .ok (.arraylength, 1) := dk_190 (dk_at dksL_law_1 3 rfl rfl)
theorem dL_law_27 : decode cL_law 27 = .ok (.bipush 7, 2) := dk_16 7 (dk_at dksL_law_1 4 rfl rfl)
theorem dL_law_29 : decode cL_law 29 = .ok (.isub, 1) := dk_100 (dk_at dksL_law_1 6 rfl rfl)
theorem dL_law_30 : decode cL_law 30 = .ok (.if_icmp .gt 2631, 3) := dk_163 10 71 (dk_at dksL_law_1 7 rfl rfl)
theorem dL_law_33 : decode cL_law 33 = .ok (.aload_n 0, 1) := dk_42 (dk_at dksL_law_1 10 rfl rfl)
theorem dL_law_34 : decode cL_law 34 = .ok (.iload 4, 2) := dk_21 4 (dk_at dksL_law_1 11 rfl rfl)
theorem dL_law_36 : decode cL_law 36 = .ok (.iaload, 1) := dk_46 (dk_at dksL_law_1 13 rfl rfl)
theorem dL_law_37 : decode cL_law 37 = .ok (.bipush 63, 2) := dk_16 63 (dk_at dksL_law_1 14 rfl rfl)
theorem dL_law_39 : decode cL_law 39 = .ok (.iand, 1) := dk_126 (dk_at dksL_law_1 16 rfl rfl)
theorem dL_law_40 : decode cL_law 40 = .ok (.tableswitch 2615 0 43 #[192, 265, 290, 303, 316, 329, 342, 398, 454, 522, 609, 677, 757, 837, 905, 973, 1065, 1140, 1208, 1276, 1332, 1357, 1425, 1493, 1561, 1653, 1709, 1722, 1790, 1846, 1902, 1915, 1956, 1999, 2067, 2185, 2241, 2309, 2377, 2421, 2477, 2533, 2558, 2571], 192) := by decide +kernel
theorem dL_law_232 : decode cL_law 232 = .ok (.aload_n 1, 1) := dk_43 (dk_at dksL_law_3 0 rfl rfl)
theorem dL_law_233 : decode cL_law 233 = .ok (.aload_n 0, 1) := dk_42 (dk_at dksL_law_3 1 rfl rfl)
theorem dL_law_234 : decode cL_law 234 = .ok (.iload 4, 2) := dk_21 4 (dk_at dksL_law_3 2 rfl rfl)
theorem dL_law_236 : decode cL_law 236 = .ok (.iconst 1, 1) := dk_4 (dk_at dksL_law_3 4 rfl rfl)
theorem dL_law_237 : decode cL_law 237 = .ok (.iadd, 1) := dk_96 (dk_at dksL_law_3 5 rfl rfl)
theorem dL_law_238 : decode cL_law 238 = .ok (.iaload, 1) := dk_46 (dk_at dksL_law_3 6 rfl rfl)
theorem dL_law_239 : decode cL_law 239 = .ok (.aload_n 0, 1) := dk_42 (dk_at dksL_law_3 7 rfl rfl)
theorem dL_law_240 : decode cL_law 240 = .ok (.iload 4, 2) := dk_21 4 (dk_at dksL_law_3 8 rfl rfl)
theorem dL_law_242 : decode cL_law 242 = .ok (.iconst 2, 1) := dk_5 (dk_at dksL_law_3 10 rfl rfl)
theorem dL_law_243 : decode cL_law 243 = .ok (.iadd, 1) := dk_96 (dk_at dksL_law_3 11 rfl rfl)
theorem dL_law_244 : decode cL_law 244 = .ok (.iaload, 1) := dk_46 (dk_at dksL_law_3 12 rfl rfl)
theorem dL_law_245 : decode cL_law 245 = .ok (.aload_n 0, 1) := dk_42 (dk_at dksL_law_3 13 rfl rfl)
theorem dL_law_246 : decode cL_law 246 = .ok (.iload 4, 2) := dk_21 4 (dk_at dksL_law_3 14 rfl rfl)
theorem dL_law_248 : decode cL_law 248 = .ok (.iconst 3, 1) := dk_6 (dk_at dksL_law_3 16 rfl rfl)
theorem dL_law_249 : decode cL_law 249 = .ok (.iadd, 1) := dk_96 (dk_at dksL_law_3 17 rfl rfl)
theorem dL_law_250 : decode cL_law 250 = .ok (.iaload, 1) := dk_46 (dk_at dksL_law_3 18 rfl rfl)
theorem dL_law_251 : decode cL_law 251 = .ok (.aload_n 0, 1) := dk_42 (dk_at dksL_law_3 19 rfl rfl)
theorem dL_law_252 : decode cL_law 252 = .ok (.iload 4, 2) := dk_21 4 (dk_at dksL_law_3 20 rfl rfl)
theorem dL_law_254 : decode cL_law 254 = .ok (.iconst 4, 1) := dk_7 (dk_at dksL_law_3 22 rfl rfl)
theorem dL_law_255 : decode cL_law 255 = .ok (.iadd, 1) := dk_96 (dk_at dksL_law_3 23 rfl rfl)
theorem dL_law_256 : decode cL_law 256 = .ok (.iaload, 1) := dk_46 (dk_at dksL_law_4 0 rfl rfl)
theorem dL_law_257 : decode cL_law 257 = .ok (.aload_n 0, 1) := dk_42 (dk_at dksL_law_4 1 rfl rfl)
theorem dL_law_258 : decode cL_law 258 = .ok (.iload 4, 2) := dk_21 4 (dk_at dksL_law_4 2 rfl rfl)
theorem dL_law_260 : decode cL_law 260 = .ok (.iconst 5, 1) := dk_8 (dk_at dksL_law_4 4 rfl rfl)
theorem dL_law_261 : decode cL_law 261 = .ok (.iadd, 1) := dk_96 (dk_at dksL_law_4 5 rfl rfl)
theorem dL_law_262 : decode cL_law 262 = .ok (.iaload, 1) := dk_46 (dk_at dksL_law_4 6 rfl rfl)
theorem dL_law_263 : decode cL_law 263 = .ok (.invokevirtual 122, 3) := dk_182 0 122 (dk_at dksL_law_4 7 rfl rfl)
theorem dL_law_266 : decode cL_law 266 = .ok (.aload_n 2, 1) := dk_44 (dk_at dksL_law_4 10 rfl rfl)
theorem dL_law_267 : decode cL_law 267 = .ok (.aload_n 0, 1) := dk_42 (dk_at dksL_law_4 11 rfl rfl)
theorem dL_law_268 : decode cL_law 268 = .ok (.iload 4, 2) := dk_21 4 (dk_at dksL_law_4 12 rfl rfl)
theorem dL_law_270 : decode cL_law 270 = .ok (.iconst 1, 1) := dk_4 (dk_at dksL_law_4 14 rfl rfl)
theorem dL_law_271 : decode cL_law 271 = .ok (.iadd, 1) := dk_96 (dk_at dksL_law_4 15 rfl rfl)
theorem dL_law_272 : decode cL_law 272 = .ok (.iaload, 1) := dk_46 (dk_at dksL_law_4 16 rfl rfl)
theorem dL_law_273 : decode cL_law 273 = .ok (.aload_n 0, 1) := dk_42 (dk_at dksL_law_4 17 rfl rfl)
theorem dL_law_274 : decode cL_law 274 = .ok (.iload 4, 2) := dk_21 4 (dk_at dksL_law_4 18 rfl rfl)
theorem dL_law_276 : decode cL_law 276 = .ok (.iconst 2, 1) := dk_5 (dk_at dksL_law_4 20 rfl rfl)
theorem dL_law_277 : decode cL_law 277 = .ok (.iadd, 1) := dk_96 (dk_at dksL_law_4 21 rfl rfl)
theorem dL_law_278 : decode cL_law 278 = .ok (.iaload, 1) := dk_46 (dk_at dksL_law_4 22 rfl rfl)
theorem dL_law_279 : decode cL_law 279 = .ok (.aload_n 0, 1) := dk_42 (dk_at dksL_law_4 23 rfl rfl)
theorem dL_law_280 : decode cL_law 280 = .ok (.iload 4, 2) := dk_21 4 (dk_at dksL_law_5 0 rfl rfl)
theorem dL_law_282 : decode cL_law 282 = .ok (.iconst 3, 1) := dk_6 (dk_at dksL_law_5 2 rfl rfl)
theorem dL_law_283 : decode cL_law 283 = .ok (.iadd, 1) := dk_96 (dk_at dksL_law_5 3 rfl rfl)
theorem dL_law_284 : decode cL_law 284 = .ok (.iaload, 1) := dk_46 (dk_at dksL_law_5 4 rfl rfl)
theorem dL_law_285 : decode cL_law 285 = .ok (.aload_n 0, 1) := dk_42 (dk_at dksL_law_5 5 rfl rfl)
theorem dL_law_286 : decode cL_law 286 = .ok (.iload 4, 2) := dk_21 4 (dk_at dksL_law_5 6 rfl rfl)
theorem dL_law_288 : decode cL_law 288 = .ok (.iconst 4, 1) := dk_7 (dk_at dksL_law_5 8 rfl rfl)
theorem dL_law_289 : decode cL_law 289 = .ok (.iadd, 1) := dk_96 (dk_at dksL_law_5 9 rfl rfl)
theorem dL_law_290 : decode cL_law 290 = .ok (.iaload, 1) := dk_46 (dk_at dksL_law_5 10 rfl rfl)
theorem dL_law_291 : decode cL_law 291 = .ok (.aload_n 0, 1) := dk_42 (dk_at dksL_law_5 11 rfl rfl)
theorem dL_law_292 : decode cL_law 292 = .ok (.iload 4, 2) := dk_21 4 (dk_at dksL_law_5 12 rfl rfl)
theorem dL_law_294 : decode cL_law 294 = .ok (.iconst 5, 1) := dk_8 (dk_at dksL_law_5 14 rfl rfl)
theorem dL_law_295 : decode cL_law 295 = .ok (.iadd, 1) := dk_96 (dk_at dksL_law_5 15 rfl rfl)
theorem dL_law_296 : decode cL_law 296 = .ok (.iaload, 1) := dk_46 (dk_at dksL_law_5 16 rfl rfl)
theorem dL_law_297 : decode cL_law 297 = .ok (.invokevirtual 126, 3) := dk_182 0 126 (dk_at dksL_law_5 17 rfl rfl)
theorem dL_law_300 : decode cL_law 300 = .ok (.if_icmp .eq 2355, 3) := dk_159 9 51 (dk_at dksL_law_5 20 rfl rfl)
theorem dL_law_303 : decode cL_law 303 = .ok (.iconst 0, 1) := dk_3 (dk_at dksL_law_5 23 rfl rfl)
theorem dL_law_304 : decode cL_law 304 = .ok (.ireturn, 1) := dk_172 (dk_at dksL_law_6 0 rfl rfl)
theorem dL_law_305 : decode cL_law 305 = .ok (.aload_n 1, 1) := dk_43 (dk_at dksL_law_6 1 rfl rfl)
theorem dL_law_306 : decode cL_law 306 = .ok (.aload_n 0, 1) := dk_42 (dk_at dksL_law_6 2 rfl rfl)
theorem dL_law_307 : decode cL_law 307 = .ok (.iload 4, 2) := dk_21 4 (dk_at dksL_law_6 3 rfl rfl)
theorem dL_law_309 : decode cL_law 309 = .ok (.iconst 1, 1) := dk_4 (dk_at dksL_law_6 5 rfl rfl)
theorem dL_law_310 : decode cL_law 310 = .ok (.iadd, 1) := dk_96 (dk_at dksL_law_6 6 rfl rfl)
theorem dL_law_311 : decode cL_law 311 = .ok (.iaload, 1) := dk_46 (dk_at dksL_law_6 7 rfl rfl)
theorem dL_law_312 : decode cL_law 312 = .ok (.invokevirtual 127, 3) := dk_182 0 127 (dk_at dksL_law_6 8 rfl rfl)
theorem dL_law_315 : decode cL_law 315 = .ok (.aload_n 2, 1) := dk_44 (dk_at dksL_law_6 11 rfl rfl)
theorem dL_law_316 : decode cL_law 316 = .ok (.aload_n 0, 1) := dk_42 (dk_at dksL_law_6 12 rfl rfl)
theorem dL_law_317 : decode cL_law 317 = .ok (.iload 4, 2) := dk_21 4 (dk_at dksL_law_6 13 rfl rfl)
theorem dL_law_319 : decode cL_law 319 = .ok (.iconst 1, 1) := dk_4 (dk_at dksL_law_6 15 rfl rfl)
theorem dL_law_320 : decode cL_law 320 = .ok (.iadd, 1) := dk_96 (dk_at dksL_law_6 16 rfl rfl)
theorem dL_law_321 : decode cL_law 321 = .ok (.iaload, 1) := dk_46 (dk_at dksL_law_6 17 rfl rfl)
theorem dL_law_322 : decode cL_law 322 = .ok (.invokevirtual 131, 3) := dk_182 0 131 (dk_at dksL_law_6 18 rfl rfl)
theorem dL_law_325 : decode cL_law 325 = .ok (.if_icmp .eq 2330, 3) := dk_159 9 26 (dk_at dksL_law_6 21 rfl rfl)
theorem dL_law_328 : decode cL_law 328 = .ok (.iconst 0, 1) := dk_3 (dk_at dksL_law_7 0 rfl rfl)
theorem dL_law_329 : decode cL_law 329 = .ok (.ireturn, 1) := dk_172 (dk_at dksL_law_7 1 rfl rfl)
theorem dL_law_330 : decode cL_law 330 = .ok (.aload_n 1, 1) := dk_43 (dk_at dksL_law_7 2 rfl rfl)
theorem dL_law_331 : decode cL_law 331 = .ok (.invokevirtual 132, 3) := dk_182 0 132 (dk_at dksL_law_7 3 rfl rfl)
theorem dL_law_334 : decode cL_law 334 = .ok (.aload_n 2, 1) := dk_44 (dk_at dksL_law_7 6 rfl rfl)
theorem dL_law_335 : decode cL_law 335 = .ok (.invokevirtual 135, 3) := dk_182 0 135 (dk_at dksL_law_7 7 rfl rfl)
theorem dL_law_338 : decode cL_law 338 = .ok (.if_icmp .eq 2317, 3) := dk_159 9 13 (dk_at dksL_law_7 10 rfl rfl)
theorem dL_law_341 : decode cL_law 341 = .ok (.iconst 0, 1) := dk_3 (dk_at dksL_law_7 13 rfl rfl)
theorem dL_law_342 : decode cL_law 342 = .ok (.ireturn, 1) := dk_172 (dk_at dksL_law_7 14 rfl rfl)
theorem dL_law_343 : decode cL_law 343 = .ok (.aload_n 1, 1) := dk_43 (dk_at dksL_law_7 15 rfl rfl)
theorem dL_law_344 : decode cL_law 344 = .ok (.invokevirtual 136, 3) := dk_182 0 136 (dk_at dksL_law_7 16 rfl rfl)
theorem dL_law_347 : decode cL_law 347 = .ok (.aload_n 2, 1) := dk_44 (dk_at dksL_law_7 19 rfl rfl)
theorem dL_law_348 : decode cL_law 348 = .ok (.invokevirtual 139, 3) := dk_182 0 139 (dk_at dksL_law_7 20 rfl rfl)
theorem dL_law_351 : decode cL_law 351 = .ok (.if_icmp .eq 2304, 3) := dk_159 9 0 (dk_at dksL_law_8 0 rfl rfl)
theorem dL_law_354 : decode cL_law 354 = .ok (.iconst 0, 1) := dk_3 (dk_at dksL_law_8 3 rfl rfl)
theorem dL_law_355 : decode cL_law 355 = .ok (.ireturn, 1) := dk_172 (dk_at dksL_law_8 4 rfl rfl)
theorem dL_law_356 : decode cL_law 356 = .ok (.aload_n 1, 1) := dk_43 (dk_at dksL_law_8 5 rfl rfl)
theorem dL_law_357 : decode cL_law 357 = .ok (.invokevirtual 140, 3) := dk_182 0 140 (dk_at dksL_law_8 6 rfl rfl)
theorem dL_law_360 : decode cL_law 360 = .ok (.aload_n 2, 1) := dk_44 (dk_at dksL_law_8 9 rfl rfl)
theorem dL_law_361 : decode cL_law 361 = .ok (.invokevirtual 143, 3) := dk_182 0 143 (dk_at dksL_law_8 10 rfl rfl)
theorem dL_law_364 : decode cL_law 364 = .ok (.if_icmp .eq 2291, 3) := dk_159 8 243 (dk_at dksL_law_8 13 rfl rfl)
theorem dL_law_367 : decode cL_law 367 = .ok (.iconst 0, 1) := dk_3 (dk_at dksL_law_8 16 rfl rfl)
theorem dL_law_368 : decode cL_law 368 = .ok (.ireturn, 1) := dk_172 (dk_at dksL_law_8 17 rfl rfl)
theorem dL_law_369 : decode cL_law 369 = .ok (.aload_n 1, 1) := dk_43 (dk_at dksL_law_8 18 rfl rfl)
theorem dL_law_370 : decode cL_law 370 = .ok (.invokevirtual 144, 3) := dk_182 0 144 (dk_at dksL_law_8 19 rfl rfl)
theorem dL_law_373 : decode cL_law 373 = .ok (.aload_n 2, 1) := dk_44 (dk_at dksL_law_8 22 rfl rfl)
theorem dL_law_374 : decode cL_law 374 = .ok (.invokevirtual 147, 3) := dk_182 0 147 (dk_at dksL_law_9 0 rfl rfl)
theorem dL_law_377 : decode cL_law 377 = .ok (.if_icmp .eq 2278, 3) := dk_159 8 230 (dk_at dksL_law_9 3 rfl rfl)
theorem dL_law_380 : decode cL_law 380 = .ok (.iconst 0, 1) := dk_3 (dk_at dksL_law_9 6 rfl rfl)
theorem dL_law_381 : decode cL_law 381 = .ok (.ireturn, 1) := dk_172 (dk_at dksL_law_9 7 rfl rfl)
theorem dL_law_382 : decode cL_law 382 = .ok (.aload_n 1, 1) := dk_43 (dk_at dksL_law_9 8 rfl rfl)
theorem dL_law_383 : decode cL_law 383 = .ok (.aload_n 0, 1) := dk_42 (dk_at dksL_law_9 9 rfl rfl)
theorem dL_law_384 : decode cL_law 384 = .ok (.iload 4, 2) := dk_21 4 (dk_at dksL_law_9 10 rfl rfl)
theorem dL_law_386 : decode cL_law 386 = .ok (.iconst 1, 1) := dk_4 (dk_at dksL_law_9 12 rfl rfl)
theorem dL_law_387 : decode cL_law 387 = .ok (.iadd, 1) := dk_96 (dk_at dksL_law_9 13 rfl rfl)
theorem dL_law_388 : decode cL_law 388 = .ok (.iaload, 1) := dk_46 (dk_at dksL_law_9 14 rfl rfl)
theorem dL_law_389 : decode cL_law 389 = .ok (.aload_n 3, 1) := dk_45 (dk_at dksL_law_9 15 rfl rfl)
theorem dL_law_390 : decode cL_law 390 = .ok (.invokestatic 148, 3) := dk_184 0 148 (dk_at dksL_law_9 16 rfl rfl)
theorem dL_law_393 : decode cL_law 393 = .ok (.istore 5, 2) := dk_54 5 (dk_at dksL_law_9 19 rfl rfl)
theorem dL_law_395 : decode cL_law 395 = .ok (.aload_n 2, 1) := dk_44 (dk_at dksL_law_9 21 rfl rfl)
theorem dL_law_396 : decode cL_law 396 = .ok (.aload_n 0, 1) := dk_42 (dk_at dksL_law_9 22 rfl rfl)
theorem dL_law_397 : decode cL_law 397 = .ok (.iload 4, 2) := dk_21 4 (dk_at dksL_law_10 0 rfl rfl)
theorem dL_law_399 : decode cL_law 399 = .ok (.iconst 1, 1) := dk_4 (dk_at dksL_law_10 2 rfl rfl)
theorem dL_law_400 : decode cL_law 400 = .ok (.iadd, 1) := dk_96 (dk_at dksL_law_10 3 rfl rfl)
theorem dL_law_401 : decode cL_law 401 = .ok (.iaload, 1) := dk_46 (dk_at dksL_law_10 4 rfl rfl)
theorem dL_law_402 : decode cL_law 402 = .ok (.invokevirtual 153, 3) := dk_182 0 153 (dk_at dksL_law_10 5 rfl rfl)
theorem dL_law_405 : decode cL_law 405 = .ok (.istore 6, 2) := dk_54 6 (dk_at dksL_law_10 8 rfl rfl)
theorem dL_law_407 : decode cL_law 407 = .ok (.aload_n 2, 1) := dk_44 (dk_at dksL_law_10 10 rfl rfl)
theorem dL_law_408 : decode cL_law 408 = .ok (.invokevirtual 154, 3) := dk_182 0 154 (dk_at dksL_law_10 11 rfl rfl)
theorem dL_law_411 : decode cL_law 411 = .ok (.iload 5, 2) := dk_21 5 (dk_at dksL_law_10 14 rfl rfl)
theorem dL_law_413 : decode cL_law 413 = .ok (.if_icmp .eq 5, 3) := dk_159 0 5 (dk_at dksL_law_10 16 rfl rfl)
theorem dL_law_416 : decode cL_law 416 = .ok (.iconst 0, 1) := dk_3 (dk_at dksL_law_10 19 rfl rfl)
theorem dL_law_417 : decode cL_law 417 = .ok (.ireturn, 1) := dk_172 (dk_at dksL_law_10 20 rfl rfl)
theorem dL_law_418 : decode cL_law 418 = .ok (.iload 5, 2) := dk_21 5 (dk_at dksL_law_10 21 rfl rfl)
theorem dL_law_420 : decode cL_law 420 = .ok (.ifCond .ne 15, 3) := dk_154 0 15 (dk_at dksL_law_11 0 rfl rfl)
theorem dL_law_423 : decode cL_law 423 = .ok (.aload_n 3, 1) := dk_45 (dk_at dksL_law_11 3 rfl rfl)
theorem dL_law_424 : decode cL_law 424 = .ok (.iconst 0, 1) := dk_3 (dk_at dksL_law_11 4 rfl rfl)
theorem dL_law_425 : decode cL_law 425 = .ok (.laload, 1) := dk_47 (dk_at dksL_law_11 5 rfl rfl)
theorem dL_law_426 : decode cL_law 426 = .ok (.iload 6, 2) := dk_21 6 (dk_at dksL_law_11 6 rfl rfl)
theorem dL_law_428 : decode cL_law 428 = .ok (.i2l, 1) := dk_133 (dk_at dksL_law_11 8 rfl rfl)
theorem dL_law_429 : decode cL_law 429 = .ok (.lcmp, 1) := dk_148 (dk_at dksL_law_11 9 rfl rfl)
theorem dL_law_430 : decode cL_law 430 = .ok (.ifCond .eq 5, 3) := dk_153 0 5 (dk_at dksL_law_11 10 rfl rfl)
theorem dL_law_433 : decode cL_law 433 = .ok (.iconst 0, 1) := dk_3 (dk_at dksL_law_11 13 rfl rfl)
theorem dL_law_434 : decode cL_law 434 = .ok (.ireturn, 1) := dk_172 (dk_at dksL_law_11 14 rfl rfl)
theorem dL_law_435 : decode cL_law 435 = .ok (.goto 2220, 3) := dk_167 8 172 (dk_at dksL_law_11 15 rfl rfl)
theorem dL_law_438 : decode cL_law 438 = .ok (.aload_n 1, 1) := dk_43 (dk_at dksL_law_11 18 rfl rfl)
theorem dL_law_439 : decode cL_law 439 = .ok (.aload_n 0, 1) := dk_42 (dk_at dksL_law_11 19 rfl rfl)
theorem dL_law_440 : decode cL_law 440 = .ok (.iload 4, 2) := dk_21 4 (dk_at dksL_law_11 20 rfl rfl)
theorem dL_law_442 : decode cL_law 442 = .ok (.iconst 1, 1) := dk_4 (dk_at dksL_law_11 22 rfl rfl)
theorem dL_law_443 : decode cL_law 443 = .ok (.iadd, 1) := dk_96 (dk_at dksL_law_11 23 rfl rfl)
theorem dL_law_444 : decode cL_law 444 = .ok (.iaload, 1) := dk_46 (dk_at dksL_law_12 0 rfl rfl)
theorem dL_law_445 : decode cL_law 445 = .ok (.aload_n 3, 1) := dk_45 (dk_at dksL_law_12 1 rfl rfl)
theorem dL_law_446 : decode cL_law 446 = .ok (.invokestatic 157, 3) := dk_184 0 157 (dk_at dksL_law_12 2 rfl rfl)
theorem dL_law_449 : decode cL_law 449 = .ok (.istore 5, 2) := dk_54 5 (dk_at dksL_law_12 5 rfl rfl)
theorem dL_law_451 : decode cL_law 451 = .ok (.aload_n 2, 1) := dk_44 (dk_at dksL_law_12 7 rfl rfl)
theorem dL_law_452 : decode cL_law 452 = .ok (.aload_n 0, 1) := dk_42 (dk_at dksL_law_12 8 rfl rfl)
theorem dL_law_453 : decode cL_law 453 = .ok (.iload 4, 2) := dk_21 4 (dk_at dksL_law_12 9 rfl rfl)
theorem dL_law_455 : decode cL_law 455 = .ok (.iconst 1, 1) := dk_4 (dk_at dksL_law_12 11 rfl rfl)
theorem dL_law_456 : decode cL_law 456 = .ok (.iadd, 1) := dk_96 (dk_at dksL_law_12 12 rfl rfl)
theorem dL_law_457 : decode cL_law 457 = .ok (.iaload, 1) := dk_46 (dk_at dksL_law_12 13 rfl rfl)
theorem dL_law_458 : decode cL_law 458 = .ok (.invokevirtual 159, 3) := dk_182 0 159 (dk_at dksL_law_12 14 rfl rfl)
theorem dL_law_461 : decode cL_law 461 = .ok (.istore 6, 2) := dk_54 6 (dk_at dksL_law_12 17 rfl rfl)
theorem dL_law_463 : decode cL_law 463 = .ok (.aload_n 2, 1) := dk_44 (dk_at dksL_law_12 19 rfl rfl)
theorem dL_law_464 : decode cL_law 464 = .ok (.invokevirtual 154, 3) := dk_182 0 154 (dk_at dksL_law_12 20 rfl rfl)
theorem dL_law_467 : decode cL_law 467 = .ok (.iload 5, 2) := dk_21 5 (dk_at dksL_law_13 0 rfl rfl)
theorem dL_law_469 : decode cL_law 469 = .ok (.if_icmp .eq 5, 3) := dk_159 0 5 (dk_at dksL_law_13 2 rfl rfl)
theorem dL_law_472 : decode cL_law 472 = .ok (.iconst 0, 1) := dk_3 (dk_at dksL_law_13 5 rfl rfl)
theorem dL_law_473 : decode cL_law 473 = .ok (.ireturn, 1) := dk_172 (dk_at dksL_law_13 6 rfl rfl)
theorem dL_law_474 : decode cL_law 474 = .ok (.iload 5, 2) := dk_21 5 (dk_at dksL_law_13 7 rfl rfl)
theorem dL_law_476 : decode cL_law 476 = .ok (.ifCond .ne 15, 3) := dk_154 0 15 (dk_at dksL_law_13 9 rfl rfl)
theorem dL_law_479 : decode cL_law 479 = .ok (.aload_n 3, 1) := dk_45 (dk_at dksL_law_13 12 rfl rfl)
theorem dL_law_480 : decode cL_law 480 = .ok (.iconst 0, 1) := dk_3 (dk_at dksL_law_13 13 rfl rfl)
theorem dL_law_481 : decode cL_law 481 = .ok (.laload, 1) := dk_47 (dk_at dksL_law_13 14 rfl rfl)
theorem dL_law_482 : decode cL_law 482 = .ok (.iload 6, 2) := dk_21 6 (dk_at dksL_law_13 15 rfl rfl)
theorem dL_law_484 : decode cL_law 484 = .ok (.i2l, 1) := dk_133 (dk_at dksL_law_13 17 rfl rfl)
theorem dL_law_485 : decode cL_law 485 = .ok (.lcmp, 1) := dk_148 (dk_at dksL_law_13 18 rfl rfl)
theorem dL_law_486 : decode cL_law 486 = .ok (.ifCond .eq 5, 3) := dk_153 0 5 (dk_at dksL_law_13 19 rfl rfl)
theorem dL_law_489 : decode cL_law 489 = .ok (.iconst 0, 1) := dk_3 (dk_at dksL_law_13 22 rfl rfl)
theorem dL_law_490 : decode cL_law 490 = .ok (.ireturn, 1) := dk_172 (dk_at dksL_law_13 23 rfl rfl)
theorem dL_law_491 : decode cL_law 491 = .ok (.goto 2164, 3) := dk_167 8 116 (dk_at dksL_law_14 0 rfl rfl)
theorem dL_law_494 : decode cL_law 494 = .ok (.aload_n 1, 1) := dk_43 (dk_at dksL_law_14 3 rfl rfl)
theorem dL_law_495 : decode cL_law 495 = .ok (.aload_n 0, 1) := dk_42 (dk_at dksL_law_14 4 rfl rfl)
theorem dL_law_496 : decode cL_law 496 = .ok (.iload 4, 2) := dk_21 4 (dk_at dksL_law_14 5 rfl rfl)
theorem dL_law_498 : decode cL_law 498 = .ok (.iconst 1, 1) := dk_4 (dk_at dksL_law_14 7 rfl rfl)
theorem dL_law_499 : decode cL_law 499 = .ok (.iadd, 1) := dk_96 (dk_at dksL_law_14 8 rfl rfl)
theorem dL_law_500 : decode cL_law 500 = .ok (.iaload, 1) := dk_46 (dk_at dksL_law_14 9 rfl rfl)
theorem dL_law_501 : decode cL_law 501 = .ok (.aload_n 0, 1) := dk_42 (dk_at dksL_law_14 10 rfl rfl)
theorem dL_law_502 : decode cL_law 502 = .ok (.iload 4, 2) := dk_21 4 (dk_at dksL_law_14 11 rfl rfl)
theorem dL_law_504 : decode cL_law 504 = .ok (.iconst 2, 1) := dk_5 (dk_at dksL_law_14 13 rfl rfl)
theorem dL_law_505 : decode cL_law 505 = .ok (.iadd, 1) := dk_96 (dk_at dksL_law_14 14 rfl rfl)
theorem dL_law_506 : decode cL_law 506 = .ok (.iaload, 1) := dk_46 (dk_at dksL_law_14 15 rfl rfl)
theorem dL_law_507 : decode cL_law 507 = .ok (.aload_n 3, 1) := dk_45 (dk_at dksL_law_14 16 rfl rfl)
theorem dL_law_508 : decode cL_law 508 = .ok (.invokestatic 160, 3) := dk_184 0 160 (dk_at dksL_law_14 17 rfl rfl)
theorem dL_law_511 : decode cL_law 511 = .ok (.istore 5, 2) := dk_54 5 (dk_at dksL_law_14 20 rfl rfl)
theorem dL_law_513 : decode cL_law 513 = .ok (.aload_n 2, 1) := dk_44 (dk_at dksL_law_14 22 rfl rfl)
theorem dL_law_514 : decode cL_law 514 = .ok (.aload_n 0, 1) := dk_42 (dk_at dksL_law_14 23 rfl rfl)
theorem dL_law_515 : decode cL_law 515 = .ok (.iload 4, 2) := dk_21 4 (dk_at dksL_law_15 0 rfl rfl)
theorem dL_law_517 : decode cL_law 517 = .ok (.iconst 1, 1) := dk_4 (dk_at dksL_law_15 2 rfl rfl)
theorem dL_law_518 : decode cL_law 518 = .ok (.iadd, 1) := dk_96 (dk_at dksL_law_15 3 rfl rfl)
theorem dL_law_519 : decode cL_law 519 = .ok (.iaload, 1) := dk_46 (dk_at dksL_law_15 4 rfl rfl)
theorem dL_law_520 : decode cL_law 520 = .ok (.aload_n 0, 1) := dk_42 (dk_at dksL_law_15 5 rfl rfl)
theorem dL_law_521 : decode cL_law 521 = .ok (.iload 4, 2) := dk_21 4 (dk_at dksL_law_15 6 rfl rfl)
theorem dL_law_523 : decode cL_law 523 = .ok (.iconst 2, 1) := dk_5 (dk_at dksL_law_15 8 rfl rfl)
theorem dL_law_524 : decode cL_law 524 = .ok (.iadd, 1) := dk_96 (dk_at dksL_law_15 9 rfl rfl)
theorem dL_law_525 : decode cL_law 525 = .ok (.iaload, 1) := dk_46 (dk_at dksL_law_15 10 rfl rfl)
theorem dL_law_526 : decode cL_law 526 = .ok (.invokevirtual 163, 3) := dk_182 0 163 (dk_at dksL_law_15 11 rfl rfl)
theorem dL_law_529 : decode cL_law 529 = .ok (.istore 6, 2) := dk_54 6 (dk_at dksL_law_15 14 rfl rfl)
theorem dL_law_531 : decode cL_law 531 = .ok (.aload_n 2, 1) := dk_44 (dk_at dksL_law_15 16 rfl rfl)
theorem dL_law_532 : decode cL_law 532 = .ok (.invokevirtual 154, 3) := dk_182 0 154 (dk_at dksL_law_15 17 rfl rfl)
theorem dL_law_535 : decode cL_law 535 = .ok (.iload 5, 2) := dk_21 5 (dk_at dksL_law_15 20 rfl rfl)
theorem dL_law_537 : decode cL_law 537 = .ok (.if_icmp .eq 5, 3) := dk_159 0 5 (dk_at dksL_law_16 0 rfl rfl)
theorem dL_law_540 : decode cL_law 540 = .ok (.iconst 0, 1) := dk_3 (dk_at dksL_law_16 3 rfl rfl)
theorem dL_law_541 : decode cL_law 541 = .ok (.ireturn, 1) := dk_172 (dk_at dksL_law_16 4 rfl rfl)
theorem dL_law_542 : decode cL_law 542 = .ok (.iload 5, 2) := dk_21 5 (dk_at dksL_law_16 5 rfl rfl)
theorem dL_law_544 : decode cL_law 544 = .ok (.ifCond .ne 15, 3) := dk_154 0 15 (dk_at dksL_law_16 7 rfl rfl)
theorem dL_law_547 : decode cL_law 547 = .ok (.aload_n 3, 1) := dk_45 (dk_at dksL_law_16 10 rfl rfl)
theorem dL_law_548 : decode cL_law 548 = .ok (.iconst 0, 1) := dk_3 (dk_at dksL_law_16 11 rfl rfl)
theorem dL_law_549 : decode cL_law 549 = .ok (.laload, 1) := dk_47 (dk_at dksL_law_16 12 rfl rfl)
theorem dL_law_550 : decode cL_law 550 = .ok (.iload 6, 2) := dk_21 6 (dk_at dksL_law_16 13 rfl rfl)
theorem dL_law_552 : decode cL_law 552 = .ok (.i2l, 1) := dk_133 (dk_at dksL_law_16 15 rfl rfl)
theorem dL_law_553 : decode cL_law 553 = .ok (.lcmp, 1) := dk_148 (dk_at dksL_law_16 16 rfl rfl)
theorem dL_law_554 : decode cL_law 554 = .ok (.ifCond .eq 5, 3) := dk_153 0 5 (dk_at dksL_law_16 17 rfl rfl)
theorem dL_law_557 : decode cL_law 557 = .ok (.iconst 0, 1) := dk_3 (dk_at dksL_law_16 20 rfl rfl)
theorem dL_law_558 : decode cL_law 558 = .ok (.ireturn, 1) := dk_172 (dk_at dksL_law_16 21 rfl rfl)
theorem dL_law_559 : decode cL_law 559 = .ok (.goto 2096, 3) := dk_167 8 48 (dk_at dksL_law_17 0 rfl rfl)
theorem dL_law_562 : decode cL_law 562 = .ok (.aload_n 1, 1) := dk_43 (dk_at dksL_law_17 3 rfl rfl)
theorem dL_law_563 : decode cL_law 563 = .ok (.aload_n 0, 1) := dk_42 (dk_at dksL_law_17 4 rfl rfl)
theorem dL_law_564 : decode cL_law 564 = .ok (.iload 4, 2) := dk_21 4 (dk_at dksL_law_17 5 rfl rfl)
theorem dL_law_566 : decode cL_law 566 = .ok (.iconst 1, 1) := dk_4 (dk_at dksL_law_17 7 rfl rfl)
theorem dL_law_567 : decode cL_law 567 = .ok (.iadd, 1) := dk_96 (dk_at dksL_law_17 8 rfl rfl)
theorem dL_law_568 : decode cL_law 568 = .ok (.iaload, 1) := dk_46 (dk_at dksL_law_17 9 rfl rfl)
theorem dL_law_569 : decode cL_law 569 = .ok (.aload_n 0, 1) := dk_42 (dk_at dksL_law_17 10 rfl rfl)
theorem dL_law_570 : decode cL_law 570 = .ok (.iload 4, 2) := dk_21 4 (dk_at dksL_law_17 11 rfl rfl)
theorem dL_law_572 : decode cL_law 572 = .ok (.iconst 2, 1) := dk_5 (dk_at dksL_law_17 13 rfl rfl)
theorem dL_law_573 : decode cL_law 573 = .ok (.iadd, 1) := dk_96 (dk_at dksL_law_17 14 rfl rfl)
theorem dL_law_574 : decode cL_law 574 = .ok (.iaload, 1) := dk_46 (dk_at dksL_law_17 15 rfl rfl)
theorem dL_law_575 : decode cL_law 575 = .ok (.aload_n 0, 1) := dk_42 (dk_at dksL_law_17 16 rfl rfl)
theorem dL_law_576 : decode cL_law 576 = .ok (.iload 4, 2) := dk_21 4 (dk_at dksL_law_17 17 rfl rfl)
theorem dL_law_578 : decode cL_law 578 = .ok (.iconst 3, 1) := dk_6 (dk_at dksL_law_17 19 rfl rfl)
theorem dL_law_579 : decode cL_law 579 = .ok (.iadd, 1) := dk_96 (dk_at dksL_law_17 20 rfl rfl)
theorem dL_law_580 : decode cL_law 580 = .ok (.iaload, 1) := dk_46 (dk_at dksL_law_17 21 rfl rfl)
theorem dL_law_581 : decode cL_law 581 = .ok (.aload_n 3, 1) := dk_45 (dk_at dksL_law_17 22 rfl rfl)
theorem dL_law_582 : decode cL_law 582 = .ok (.invokestatic 164, 3) := dk_184 0 164 (dk_at dksL_law_18 0 rfl rfl)
theorem dL_law_585 : decode cL_law 585 = .ok (.istore 5, 2) := dk_54 5 (dk_at dksL_law_18 3 rfl rfl)
theorem dL_law_587 : decode cL_law 587 = .ok (.aload_n 2, 1) := dk_44 (dk_at dksL_law_18 5 rfl rfl)
theorem dL_law_588 : decode cL_law 588 = .ok (.aload_n 0, 1) := dk_42 (dk_at dksL_law_18 6 rfl rfl)
theorem dL_law_589 : decode cL_law 589 = .ok (.iload 4, 2) := dk_21 4 (dk_at dksL_law_18 7 rfl rfl)
theorem dL_law_591 : decode cL_law 591 = .ok (.iconst 1, 1) := dk_4 (dk_at dksL_law_18 9 rfl rfl)
theorem dL_law_592 : decode cL_law 592 = .ok (.iadd, 1) := dk_96 (dk_at dksL_law_18 10 rfl rfl)
theorem dL_law_593 : decode cL_law 593 = .ok (.iaload, 1) := dk_46 (dk_at dksL_law_18 11 rfl rfl)
theorem dL_law_594 : decode cL_law 594 = .ok (.aload_n 0, 1) := dk_42 (dk_at dksL_law_18 12 rfl rfl)
theorem dL_law_595 : decode cL_law 595 = .ok (.iload 4, 2) := dk_21 4 (dk_at dksL_law_18 13 rfl rfl)
theorem dL_law_597 : decode cL_law 597 = .ok (.iconst 2, 1) := dk_5 (dk_at dksL_law_18 15 rfl rfl)
theorem dL_law_598 : decode cL_law 598 = .ok (.iadd, 1) := dk_96 (dk_at dksL_law_18 16 rfl rfl)
theorem dL_law_599 : decode cL_law 599 = .ok (.iaload, 1) := dk_46 (dk_at dksL_law_18 17 rfl rfl)
theorem dL_law_600 : decode cL_law 600 = .ok (.aload_n 0, 1) := dk_42 (dk_at dksL_law_18 18 rfl rfl)
theorem dL_law_601 : decode cL_law 601 = .ok (.iload 4, 2) := dk_21 4 (dk_at dksL_law_18 19 rfl rfl)
theorem dL_law_603 : decode cL_law 603 = .ok (.iconst 3, 1) := dk_6 (dk_at dksL_law_18 21 rfl rfl)
theorem dL_law_604 : decode cL_law 604 = .ok (.iadd, 1) := dk_96 (dk_at dksL_law_18 22 rfl rfl)
theorem dL_law_605 : decode cL_law 605 = .ok (.iaload, 1) := dk_46 (dk_at dksL_law_18 23 rfl rfl)
theorem dL_law_606 : decode cL_law 606 = .ok (.invokevirtual 167, 3) := dk_182 0 167 (dk_at dksL_law_19 0 rfl rfl)
theorem dL_law_609 : decode cL_law 609 = .ok (.istore 6, 2) := dk_54 6 (dk_at dksL_law_19 3 rfl rfl)
theorem dL_law_611 : decode cL_law 611 = .ok (.aload_n 2, 1) := dk_44 (dk_at dksL_law_19 5 rfl rfl)
theorem dL_law_612 : decode cL_law 612 = .ok (.invokevirtual 154, 3) := dk_182 0 154 (dk_at dksL_law_19 6 rfl rfl)
theorem dL_law_615 : decode cL_law 615 = .ok (.iload 5, 2) := dk_21 5 (dk_at dksL_law_19 9 rfl rfl)
theorem dL_law_617 : decode cL_law 617 = .ok (.if_icmp .eq 5, 3) := dk_159 0 5 (dk_at dksL_law_19 11 rfl rfl)
theorem dL_law_620 : decode cL_law 620 = .ok (.iconst 0, 1) := dk_3 (dk_at dksL_law_19 14 rfl rfl)
theorem dL_law_621 : decode cL_law 621 = .ok (.ireturn, 1) := dk_172 (dk_at dksL_law_19 15 rfl rfl)
theorem dL_law_622 : decode cL_law 622 = .ok (.iload 5, 2) := dk_21 5 (dk_at dksL_law_19 16 rfl rfl)
theorem dL_law_624 : decode cL_law 624 = .ok (.ifCond .ne 22, 3) := dk_154 0 22 (dk_at dksL_law_19 18 rfl rfl)
theorem dL_law_627 : decode cL_law 627 = .ok (.aload_n 3, 1) := dk_45 (dk_at dksL_law_19 21 rfl rfl)
theorem dL_law_628 : decode cL_law 628 = .ok (.iconst 0, 1) := dk_3 (dk_at dksL_law_19 22 rfl rfl)
theorem dL_law_629 : decode cL_law 629 = .ok (.laload, 1) := dk_47 (dk_at dksL_law_19 23 rfl rfl)
theorem dL_law_630 : decode cL_law 630 = .ok (.iload 6, 2) := dk_21 6 (dk_at dksL_law_20 0 rfl rfl)
theorem dL_law_632 : decode cL_law 632 = .ok (.ifCond .eq 7, 3) := dk_153 0 7 (dk_at dksL_law_20 2 rfl rfl)
theorem dL_law_635 : decode cL_law 635 = .ok (.lconst 1, 1) := dk_10 (dk_at dksL_law_20 5 rfl rfl)
theorem dL_law_636 : decode cL_law 636 = .ok (.goto 4, 3) := dk_167 0 4 (dk_at dksL_law_20 6 rfl rfl)
theorem dL_law_639 : decode cL_law 639 = .ok (.lconst 0, 1) := dk_9 (dk_at dksL_law_20 9 rfl rfl)
theorem dL_law_640 : decode cL_law 640 = .ok (.lcmp, 1) := dk_148 (dk_at dksL_law_20 10 rfl rfl)
theorem dL_law_641 : decode cL_law 641 = .ok (.ifCond .eq 5, 3) := dk_153 0 5 (dk_at dksL_law_20 11 rfl rfl)
theorem dL_law_644 : decode cL_law 644 = .ok (.iconst 0, 1) := dk_3 (dk_at dksL_law_20 14 rfl rfl)
theorem dL_law_645 : decode cL_law 645 = .ok (.ireturn, 1) := dk_172 (dk_at dksL_law_20 15 rfl rfl)
theorem dL_law_646 : decode cL_law 646 = .ok (.goto 2009, 3) := dk_167 7 217 (dk_at dksL_law_20 16 rfl rfl)
theorem dL_law_649 : decode cL_law 649 = .ok (.aload_n 1, 1) := dk_43 (dk_at dksL_law_20 19 rfl rfl)
theorem dL_law_650 : decode cL_law 650 = .ok (.aload_n 0, 1) := dk_42 (dk_at dksL_law_20 20 rfl rfl)
theorem dL_law_651 : decode cL_law 651 = .ok (.iload 4, 2) := dk_21 4 (dk_at dksL_law_20 21 rfl rfl)
theorem dL_law_653 : decode cL_law 653 = .ok (.iconst 1, 1) := dk_4 (dk_at dksL_law_20 23 rfl rfl)
theorem dL_law_654 : decode cL_law 654 = .ok (.iadd, 1) := dk_96 (dk_at dksL_law_21 0 rfl rfl)
theorem dL_law_655 : decode cL_law 655 = .ok (.iaload, 1) := dk_46 (dk_at dksL_law_21 1 rfl rfl)
theorem dL_law_656 : decode cL_law 656 = .ok (.aload_n 0, 1) := dk_42 (dk_at dksL_law_21 2 rfl rfl)
theorem dL_law_657 : decode cL_law 657 = .ok (.iload 4, 2) := dk_21 4 (dk_at dksL_law_21 3 rfl rfl)
theorem dL_law_659 : decode cL_law 659 = .ok (.iconst 2, 1) := dk_5 (dk_at dksL_law_21 5 rfl rfl)
theorem dL_law_660 : decode cL_law 660 = .ok (.iadd, 1) := dk_96 (dk_at dksL_law_21 6 rfl rfl)
theorem dL_law_661 : decode cL_law 661 = .ok (.iaload, 1) := dk_46 (dk_at dksL_law_21 7 rfl rfl)
theorem dL_law_662 : decode cL_law 662 = .ok (.aload_n 3, 1) := dk_45 (dk_at dksL_law_21 8 rfl rfl)
theorem dL_law_663 : decode cL_law 663 = .ok (.invokestatic 168, 3) := dk_184 0 168 (dk_at dksL_law_21 9 rfl rfl)
theorem dL_law_666 : decode cL_law 666 = .ok (.istore 5, 2) := dk_54 5 (dk_at dksL_law_21 12 rfl rfl)
theorem dL_law_668 : decode cL_law 668 = .ok (.aload_n 2, 1) := dk_44 (dk_at dksL_law_21 14 rfl rfl)
theorem dL_law_669 : decode cL_law 669 = .ok (.aload_n 0, 1) := dk_42 (dk_at dksL_law_21 15 rfl rfl)
theorem dL_law_670 : decode cL_law 670 = .ok (.iload 4, 2) := dk_21 4 (dk_at dksL_law_21 16 rfl rfl)
theorem dL_law_672 : decode cL_law 672 = .ok (.iconst 1, 1) := dk_4 (dk_at dksL_law_21 18 rfl rfl)
theorem dL_law_673 : decode cL_law 673 = .ok (.iadd, 1) := dk_96 (dk_at dksL_law_21 19 rfl rfl)
theorem dL_law_674 : decode cL_law 674 = .ok (.iaload, 1) := dk_46 (dk_at dksL_law_21 20 rfl rfl)
theorem dL_law_675 : decode cL_law 675 = .ok (.aload_n 0, 1) := dk_42 (dk_at dksL_law_21 21 rfl rfl)
theorem dL_law_676 : decode cL_law 676 = .ok (.iload 4, 2) := dk_21 4 (dk_at dksL_law_21 22 rfl rfl)
theorem dL_law_678 : decode cL_law 678 = .ok (.iconst 2, 1) := dk_5 (dk_at dksL_law_22 0 rfl rfl)
theorem dL_law_679 : decode cL_law 679 = .ok (.iadd, 1) := dk_96 (dk_at dksL_law_22 1 rfl rfl)
theorem dL_law_680 : decode cL_law 680 = .ok (.iaload, 1) := dk_46 (dk_at dksL_law_22 2 rfl rfl)
theorem dL_law_681 : decode cL_law 681 = .ok (.invokevirtual 170, 3) := dk_182 0 170 (dk_at dksL_law_22 3 rfl rfl)
theorem dL_law_684 : decode cL_law 684 = .ok (.istore 6, 2) := dk_54 6 (dk_at dksL_law_22 6 rfl rfl)
theorem dL_law_686 : decode cL_law 686 = .ok (.aload_n 2, 1) := dk_44 (dk_at dksL_law_22 8 rfl rfl)
theorem dL_law_687 : decode cL_law 687 = .ok (.invokevirtual 154, 3) := dk_182 0 154 (dk_at dksL_law_22 9 rfl rfl)
theorem dL_law_690 : decode cL_law 690 = .ok (.iload 5, 2) := dk_21 5 (dk_at dksL_law_22 12 rfl rfl)
theorem dL_law_692 : decode cL_law 692 = .ok (.if_icmp .eq 5, 3) := dk_159 0 5 (dk_at dksL_law_22 14 rfl rfl)
theorem dL_law_695 : decode cL_law 695 = .ok (.iconst 0, 1) := dk_3 (dk_at dksL_law_22 17 rfl rfl)
theorem dL_law_696 : decode cL_law 696 = .ok (.ireturn, 1) := dk_172 (dk_at dksL_law_22 18 rfl rfl)
theorem dL_law_697 : decode cL_law 697 = .ok (.iload 5, 2) := dk_21 5 (dk_at dksL_law_22 19 rfl rfl)
theorem dL_law_699 : decode cL_law 699 = .ok (.ifCond .ne 15, 3) := dk_154 0 15 (dk_at dksL_law_22 21 rfl rfl)
theorem dL_law_702 : decode cL_law 702 = .ok (.aload_n 3, 1) := dk_45 (dk_at dksL_law_23 0 rfl rfl)
theorem dL_law_703 : decode cL_law 703 = .ok (.iconst 0, 1) := dk_3 (dk_at dksL_law_23 1 rfl rfl)
theorem dL_law_704 : decode cL_law 704 = .ok (.laload, 1) := dk_47 (dk_at dksL_law_23 2 rfl rfl)
theorem dL_law_705 : decode cL_law 705 = .ok (.iload 6, 2) := dk_21 6 (dk_at dksL_law_23 3 rfl rfl)
theorem dL_law_707 : decode cL_law 707 = .ok (.i2l, 1) := dk_133 (dk_at dksL_law_23 5 rfl rfl)
theorem dL_law_708 : decode cL_law 708 = .ok (.lcmp, 1) := dk_148 (dk_at dksL_law_23 6 rfl rfl)
theorem dL_law_709 : decode cL_law 709 = .ok (.ifCond .eq 5, 3) := dk_153 0 5 (dk_at dksL_law_23 7 rfl rfl)
theorem dL_law_712 : decode cL_law 712 = .ok (.iconst 0, 1) := dk_3 (dk_at dksL_law_23 10 rfl rfl)
theorem dL_law_713 : decode cL_law 713 = .ok (.ireturn, 1) := dk_172 (dk_at dksL_law_23 11 rfl rfl)
theorem dL_law_714 : decode cL_law 714 = .ok (.goto 1941, 3) := dk_167 7 149 (dk_at dksL_law_23 12 rfl rfl)
theorem dL_law_717 : decode cL_law 717 = .ok (.aload_n 1, 1) := dk_43 (dk_at dksL_law_23 15 rfl rfl)
theorem dL_law_718 : decode cL_law 718 = .ok (.aload_n 0, 1) := dk_42 (dk_at dksL_law_23 16 rfl rfl)
theorem dL_law_719 : decode cL_law 719 = .ok (.iload 4, 2) := dk_21 4 (dk_at dksL_law_23 17 rfl rfl)
theorem dL_law_721 : decode cL_law 721 = .ok (.iconst 1, 1) := dk_4 (dk_at dksL_law_23 19 rfl rfl)
theorem dL_law_722 : decode cL_law 722 = .ok (.iadd, 1) := dk_96 (dk_at dksL_law_23 20 rfl rfl)
theorem dL_law_723 : decode cL_law 723 = .ok (.iaload, 1) := dk_46 (dk_at dksL_law_23 21 rfl rfl)
theorem dL_law_724 : decode cL_law 724 = .ok (.aload_n 0, 1) := dk_42 (dk_at dksL_law_23 22 rfl rfl)
theorem dL_law_725 : decode cL_law 725 = .ok (.iload 4, 2) := dk_21 4 (dk_at dksL_law_24 0 rfl rfl)
theorem dL_law_727 : decode cL_law 727 = .ok (.iconst 2, 1) := dk_5 (dk_at dksL_law_24 2 rfl rfl)
theorem dL_law_728 : decode cL_law 728 = .ok (.iadd, 1) := dk_96 (dk_at dksL_law_24 3 rfl rfl)
theorem dL_law_729 : decode cL_law 729 = .ok (.iaload, 1) := dk_46 (dk_at dksL_law_24 4 rfl rfl)
theorem dL_law_730 : decode cL_law 730 = .ok (.aload_n 0, 1) := dk_42 (dk_at dksL_law_24 5 rfl rfl)
theorem dL_law_731 : decode cL_law 731 = .ok (.iload 4, 2) := dk_21 4 (dk_at dksL_law_24 6 rfl rfl)
theorem dL_law_733 : decode cL_law 733 = .ok (.iconst 3, 1) := dk_6 (dk_at dksL_law_24 8 rfl rfl)
theorem dL_law_734 : decode cL_law 734 = .ok (.iadd, 1) := dk_96 (dk_at dksL_law_24 9 rfl rfl)
theorem dL_law_735 : decode cL_law 735 = .ok (.iaload, 1) := dk_46 (dk_at dksL_law_24 10 rfl rfl)
theorem dL_law_736 : decode cL_law 736 = .ok (.aload_n 3, 1) := dk_45 (dk_at dksL_law_24 11 rfl rfl)
theorem dL_law_737 : decode cL_law 737 = .ok (.invokestatic 171, 3) := dk_184 0 171 (dk_at dksL_law_24 12 rfl rfl)
theorem dL_law_740 : decode cL_law 740 = .ok (.istore 5, 2) := dk_54 5 (dk_at dksL_law_24 15 rfl rfl)
theorem dL_law_742 : decode cL_law 742 = .ok (.aload_n 2, 1) := dk_44 (dk_at dksL_law_24 17 rfl rfl)
theorem dL_law_743 : decode cL_law 743 = .ok (.aload_n 0, 1) := dk_42 (dk_at dksL_law_24 18 rfl rfl)
theorem dL_law_744 : decode cL_law 744 = .ok (.iload 4, 2) := dk_21 4 (dk_at dksL_law_24 19 rfl rfl)
theorem dL_law_746 : decode cL_law 746 = .ok (.iconst 1, 1) := dk_4 (dk_at dksL_law_24 21 rfl rfl)
theorem dL_law_747 : decode cL_law 747 = .ok (.iadd, 1) := dk_96 (dk_at dksL_law_24 22 rfl rfl)
theorem dL_law_748 : decode cL_law 748 = .ok (.iaload, 1) := dk_46 (dk_at dksL_law_24 23 rfl rfl)
theorem dL_law_749 : decode cL_law 749 = .ok (.aload_n 0, 1) := dk_42 (dk_at dksL_law_25 0 rfl rfl)
theorem dL_law_750 : decode cL_law 750 = .ok (.iload 4, 2) := dk_21 4 (dk_at dksL_law_25 1 rfl rfl)
theorem dL_law_752 : decode cL_law 752 = .ok (.iconst 2, 1) := dk_5 (dk_at dksL_law_25 3 rfl rfl)
theorem dL_law_753 : decode cL_law 753 = .ok (.iadd, 1) := dk_96 (dk_at dksL_law_25 4 rfl rfl)
theorem dL_law_754 : decode cL_law 754 = .ok (.iaload, 1) := dk_46 (dk_at dksL_law_25 5 rfl rfl)
theorem dL_law_755 : decode cL_law 755 = .ok (.aload_n 0, 1) := dk_42 (dk_at dksL_law_25 6 rfl rfl)
theorem dL_law_756 : decode cL_law 756 = .ok (.iload 4, 2) := dk_21 4 (dk_at dksL_law_25 7 rfl rfl)
theorem dL_law_758 : decode cL_law 758 = .ok (.iconst 3, 1) := dk_6 (dk_at dksL_law_25 9 rfl rfl)
theorem dL_law_759 : decode cL_law 759 = .ok (.iadd, 1) := dk_96 (dk_at dksL_law_25 10 rfl rfl)
theorem dL_law_760 : decode cL_law 760 = .ok (.iaload, 1) := dk_46 (dk_at dksL_law_25 11 rfl rfl)
theorem dL_law_761 : decode cL_law 761 = .ok (.invokevirtual 173, 3) := dk_182 0 173 (dk_at dksL_law_25 12 rfl rfl)
theorem dL_law_764 : decode cL_law 764 = .ok (.istore 6, 2) := dk_54 6 (dk_at dksL_law_25 15 rfl rfl)
theorem dL_law_766 : decode cL_law 766 = .ok (.aload_n 2, 1) := dk_44 (dk_at dksL_law_25 17 rfl rfl)
theorem dL_law_767 : decode cL_law 767 = .ok (.invokevirtual 154, 3) := dk_182 0 154 (dk_at dksL_law_25 18 rfl rfl)
theorem dL_law_770 : decode cL_law 770 = .ok (.iload 5, 2) := dk_21 5 (dk_at dksL_law_25 21 rfl rfl)
theorem dL_law_772 : decode cL_law 772 = .ok (.if_icmp .eq 5, 3) := dk_159 0 5 (dk_at dksL_law_26 0 rfl rfl)
theorem dL_law_775 : decode cL_law 775 = .ok (.iconst 0, 1) := dk_3 (dk_at dksL_law_26 3 rfl rfl)
theorem dL_law_776 : decode cL_law 776 = .ok (.ireturn, 1) := dk_172 (dk_at dksL_law_26 4 rfl rfl)
theorem dL_law_777 : decode cL_law 777 = .ok (.iload 5, 2) := dk_21 5 (dk_at dksL_law_26 5 rfl rfl)
theorem dL_law_779 : decode cL_law 779 = .ok (.ifCond .ne 15, 3) := dk_154 0 15 (dk_at dksL_law_26 7 rfl rfl)
theorem dL_law_782 : decode cL_law 782 = .ok (.aload_n 3, 1) := dk_45 (dk_at dksL_law_26 10 rfl rfl)
theorem dL_law_783 : decode cL_law 783 = .ok (.iconst 0, 1) := dk_3 (dk_at dksL_law_26 11 rfl rfl)
theorem dL_law_784 : decode cL_law 784 = .ok (.laload, 1) := dk_47 (dk_at dksL_law_26 12 rfl rfl)
theorem dL_law_785 : decode cL_law 785 = .ok (.iload 6, 2) := dk_21 6 (dk_at dksL_law_26 13 rfl rfl)
theorem dL_law_787 : decode cL_law 787 = .ok (.i2l, 1) := dk_133 (dk_at dksL_law_26 15 rfl rfl)
theorem dL_law_788 : decode cL_law 788 = .ok (.lcmp, 1) := dk_148 (dk_at dksL_law_26 16 rfl rfl)
theorem dL_law_789 : decode cL_law 789 = .ok (.ifCond .eq 5, 3) := dk_153 0 5 (dk_at dksL_law_26 17 rfl rfl)
theorem dL_law_792 : decode cL_law 792 = .ok (.iconst 0, 1) := dk_3 (dk_at dksL_law_26 20 rfl rfl)
theorem dL_law_793 : decode cL_law 793 = .ok (.ireturn, 1) := dk_172 (dk_at dksL_law_26 21 rfl rfl)
theorem dL_law_794 : decode cL_law 794 = .ok (.goto 1861, 3) := dk_167 7 69 (dk_at dksL_law_27 0 rfl rfl)
theorem dL_law_797 : decode cL_law 797 = .ok (.aload_n 1, 1) := dk_43 (dk_at dksL_law_27 3 rfl rfl)
theorem dL_law_798 : decode cL_law 798 = .ok (.aload_n 0, 1) := dk_42 (dk_at dksL_law_27 4 rfl rfl)
theorem dL_law_799 : decode cL_law 799 = .ok (.iload 4, 2) := dk_21 4 (dk_at dksL_law_27 5 rfl rfl)
theorem dL_law_801 : decode cL_law 801 = .ok (.iconst 1, 1) := dk_4 (dk_at dksL_law_27 7 rfl rfl)
theorem dL_law_802 : decode cL_law 802 = .ok (.iadd, 1) := dk_96 (dk_at dksL_law_27 8 rfl rfl)
theorem dL_law_803 : decode cL_law 803 = .ok (.iaload, 1) := dk_46 (dk_at dksL_law_27 9 rfl rfl)
theorem dL_law_804 : decode cL_law 804 = .ok (.aload_n 0, 1) := dk_42 (dk_at dksL_law_27 10 rfl rfl)
theorem dL_law_805 : decode cL_law 805 = .ok (.iload 4, 2) := dk_21 4 (dk_at dksL_law_27 11 rfl rfl)
theorem dL_law_807 : decode cL_law 807 = .ok (.iconst 2, 1) := dk_5 (dk_at dksL_law_27 13 rfl rfl)
theorem dL_law_808 : decode cL_law 808 = .ok (.iadd, 1) := dk_96 (dk_at dksL_law_27 14 rfl rfl)
theorem dL_law_809 : decode cL_law 809 = .ok (.iaload, 1) := dk_46 (dk_at dksL_law_27 15 rfl rfl)
theorem dL_law_810 : decode cL_law 810 = .ok (.aload_n 0, 1) := dk_42 (dk_at dksL_law_27 16 rfl rfl)
theorem dL_law_811 : decode cL_law 811 = .ok (.iload 4, 2) := dk_21 4 (dk_at dksL_law_27 17 rfl rfl)
theorem dL_law_813 : decode cL_law 813 = .ok (.iconst 3, 1) := dk_6 (dk_at dksL_law_27 19 rfl rfl)
theorem dL_law_814 : decode cL_law 814 = .ok (.iadd, 1) := dk_96 (dk_at dksL_law_27 20 rfl rfl)
theorem dL_law_815 : decode cL_law 815 = .ok (.iaload, 1) := dk_46 (dk_at dksL_law_27 21 rfl rfl)
theorem dL_law_816 : decode cL_law 816 = .ok (.aload_n 3, 1) := dk_45 (dk_at dksL_law_27 22 rfl rfl)
theorem dL_law_817 : decode cL_law 817 = .ok (.invokestatic 174, 3) := dk_184 0 174 (dk_at dksL_law_28 0 rfl rfl)
theorem dL_law_820 : decode cL_law 820 = .ok (.istore 5, 2) := dk_54 5 (dk_at dksL_law_28 3 rfl rfl)
theorem dL_law_822 : decode cL_law 822 = .ok (.aload_n 2, 1) := dk_44 (dk_at dksL_law_28 5 rfl rfl)
theorem dL_law_823 : decode cL_law 823 = .ok (.aload_n 0, 1) := dk_42 (dk_at dksL_law_28 6 rfl rfl)
theorem dL_law_824 : decode cL_law 824 = .ok (.iload 4, 2) := dk_21 4 (dk_at dksL_law_28 7 rfl rfl)
theorem dL_law_826 : decode cL_law 826 = .ok (.iconst 1, 1) := dk_4 (dk_at dksL_law_28 9 rfl rfl)
theorem dL_law_827 : decode cL_law 827 = .ok (.iadd, 1) := dk_96 (dk_at dksL_law_28 10 rfl rfl)
theorem dL_law_828 : decode cL_law 828 = .ok (.iaload, 1) := dk_46 (dk_at dksL_law_28 11 rfl rfl)
theorem dL_law_829 : decode cL_law 829 = .ok (.aload_n 0, 1) := dk_42 (dk_at dksL_law_28 12 rfl rfl)
theorem dL_law_830 : decode cL_law 830 = .ok (.iload 4, 2) := dk_21 4 (dk_at dksL_law_28 13 rfl rfl)
theorem dL_law_832 : decode cL_law 832 = .ok (.iconst 2, 1) := dk_5 (dk_at dksL_law_28 15 rfl rfl)
theorem dL_law_833 : decode cL_law 833 = .ok (.iadd, 1) := dk_96 (dk_at dksL_law_28 16 rfl rfl)
theorem dL_law_834 : decode cL_law 834 = .ok (.iaload, 1) := dk_46 (dk_at dksL_law_28 17 rfl rfl)
theorem dL_law_835 : decode cL_law 835 = .ok (.aload_n 0, 1) := dk_42 (dk_at dksL_law_28 18 rfl rfl)
theorem dL_law_836 : decode cL_law 836 = .ok (.iload 4, 2) := dk_21 4 (dk_at dksL_law_28 19 rfl rfl)
theorem dL_law_838 : decode cL_law 838 = .ok (.iconst 3, 1) := dk_6 (dk_at dksL_law_28 21 rfl rfl)
theorem dL_law_839 : decode cL_law 839 = .ok (.iadd, 1) := dk_96 (dk_at dksL_law_28 22 rfl rfl)
theorem dL_law_840 : decode cL_law 840 = .ok (.iaload, 1) := dk_46 (dk_at dksL_law_28 23 rfl rfl)
theorem dL_law_841 : decode cL_law 841 = .ok (.invokevirtual 176, 3) := dk_182 0 176 (dk_at dksL_law_29 0 rfl rfl)
theorem dL_law_844 : decode cL_law 844 = .ok (.istore 6, 2) := dk_54 6 (dk_at dksL_law_29 3 rfl rfl)
theorem dL_law_846 : decode cL_law 846 = .ok (.aload_n 2, 1) := dk_44 (dk_at dksL_law_29 5 rfl rfl)
theorem dL_law_847 : decode cL_law 847 = .ok (.invokevirtual 154, 3) := dk_182 0 154 (dk_at dksL_law_29 6 rfl rfl)
theorem dL_law_850 : decode cL_law 850 = .ok (.iload 5, 2) := dk_21 5 (dk_at dksL_law_29 9 rfl rfl)
theorem dL_law_852 : decode cL_law 852 = .ok (.if_icmp .eq 5, 3) := dk_159 0 5 (dk_at dksL_law_29 11 rfl rfl)
theorem dL_law_855 : decode cL_law 855 = .ok (.iconst 0, 1) := dk_3 (dk_at dksL_law_29 14 rfl rfl)
theorem dL_law_856 : decode cL_law 856 = .ok (.ireturn, 1) := dk_172 (dk_at dksL_law_29 15 rfl rfl)
theorem dL_law_857 : decode cL_law 857 = .ok (.iload 5, 2) := dk_21 5 (dk_at dksL_law_29 16 rfl rfl)
theorem dL_law_859 : decode cL_law 859 = .ok (.ifCond .ne 15, 3) := dk_154 0 15 (dk_at dksL_law_29 18 rfl rfl)
theorem dL_law_862 : decode cL_law 862 = .ok (.aload_n 3, 1) := dk_45 (dk_at dksL_law_29 21 rfl rfl)
theorem dL_law_863 : decode cL_law 863 = .ok (.iconst 0, 1) := dk_3 (dk_at dksL_law_29 22 rfl rfl)
theorem dL_law_864 : decode cL_law 864 = .ok (.laload, 1) := dk_47 (dk_at dksL_law_29 23 rfl rfl)
theorem dL_law_865 : decode cL_law 865 = .ok (.iload 6, 2) := dk_21 6 (dk_at dksL_law_30 0 rfl rfl)
theorem dL_law_867 : decode cL_law 867 = .ok (.i2l, 1) := dk_133 (dk_at dksL_law_30 2 rfl rfl)
theorem dL_law_868 : decode cL_law 868 = .ok (.lcmp, 1) := dk_148 (dk_at dksL_law_30 3 rfl rfl)
theorem dL_law_869 : decode cL_law 869 = .ok (.ifCond .eq 5, 3) := dk_153 0 5 (dk_at dksL_law_30 4 rfl rfl)
theorem dL_law_872 : decode cL_law 872 = .ok (.iconst 0, 1) := dk_3 (dk_at dksL_law_30 7 rfl rfl)
theorem dL_law_873 : decode cL_law 873 = .ok (.ireturn, 1) := dk_172 (dk_at dksL_law_30 8 rfl rfl)
theorem dL_law_874 : decode cL_law 874 = .ok (.goto 1781, 3) := dk_167 6 245 (dk_at dksL_law_30 9 rfl rfl)
theorem dL_law_877 : decode cL_law 877 = .ok (.aload_n 1, 1) := dk_43 (dk_at dksL_law_30 12 rfl rfl)
theorem dL_law_878 : decode cL_law 878 = .ok (.aload_n 0, 1) := dk_42 (dk_at dksL_law_30 13 rfl rfl)
theorem dL_law_879 : decode cL_law 879 = .ok (.iload 4, 2) := dk_21 4 (dk_at dksL_law_30 14 rfl rfl)
theorem dL_law_881 : decode cL_law 881 = .ok (.iconst 1, 1) := dk_4 (dk_at dksL_law_30 16 rfl rfl)
theorem dL_law_882 : decode cL_law 882 = .ok (.iadd, 1) := dk_96 (dk_at dksL_law_30 17 rfl rfl)
theorem dL_law_883 : decode cL_law 883 = .ok (.iaload, 1) := dk_46 (dk_at dksL_law_30 18 rfl rfl)
theorem dL_law_884 : decode cL_law 884 = .ok (.aload_n 0, 1) := dk_42 (dk_at dksL_law_30 19 rfl rfl)
theorem dL_law_885 : decode cL_law 885 = .ok (.iload 4, 2) := dk_21 4 (dk_at dksL_law_30 20 rfl rfl)
theorem dL_law_887 : decode cL_law 887 = .ok (.iconst 2, 1) := dk_5 (dk_at dksL_law_30 22 rfl rfl)
theorem dL_law_888 : decode cL_law 888 = .ok (.iadd, 1) := dk_96 (dk_at dksL_law_30 23 rfl rfl)
theorem dL_law_889 : decode cL_law 889 = .ok (.iaload, 1) := dk_46 (dk_at dksL_law_31 0 rfl rfl)
theorem dL_law_890 : decode cL_law 890 = .ok (.aload_n 3, 1) := dk_45 (dk_at dksL_law_31 1 rfl rfl)
theorem dL_law_891 : decode cL_law 891 = .ok (.invokestatic 177, 3) := dk_184 0 177 (dk_at dksL_law_31 2 rfl rfl)
theorem dL_law_894 : decode cL_law 894 = .ok (.istore 5, 2) := dk_54 5 (dk_at dksL_law_31 5 rfl rfl)
theorem dL_law_896 : decode cL_law 896 = .ok (.aload_n 2, 1) := dk_44 (dk_at dksL_law_31 7 rfl rfl)
theorem dL_law_897 : decode cL_law 897 = .ok (.aload_n 0, 1) := dk_42 (dk_at dksL_law_31 8 rfl rfl)
theorem dL_law_898 : decode cL_law 898 = .ok (.iload 4, 2) := dk_21 4 (dk_at dksL_law_31 9 rfl rfl)
theorem dL_law_900 : decode cL_law 900 = .ok (.iconst 1, 1) := dk_4 (dk_at dksL_law_31 11 rfl rfl)
theorem dL_law_901 : decode cL_law 901 = .ok (.iadd, 1) := dk_96 (dk_at dksL_law_31 12 rfl rfl)
theorem dL_law_902 : decode cL_law 902 = .ok (.iaload, 1) := dk_46 (dk_at dksL_law_31 13 rfl rfl)
theorem dL_law_903 : decode cL_law 903 = .ok (.aload_n 0, 1) := dk_42 (dk_at dksL_law_31 14 rfl rfl)
theorem dL_law_904 : decode cL_law 904 = .ok (.iload 4, 2) := dk_21 4 (dk_at dksL_law_31 15 rfl rfl)
theorem dL_law_906 : decode cL_law 906 = .ok (.iconst 2, 1) := dk_5 (dk_at dksL_law_31 17 rfl rfl)
theorem dL_law_907 : decode cL_law 907 = .ok (.iadd, 1) := dk_96 (dk_at dksL_law_31 18 rfl rfl)
theorem dL_law_908 : decode cL_law 908 = .ok (.iaload, 1) := dk_46 (dk_at dksL_law_31 19 rfl rfl)
theorem dL_law_909 : decode cL_law 909 = .ok (.invokevirtual 179, 3) := dk_182 0 179 (dk_at dksL_law_31 20 rfl rfl)
theorem dL_law_912 : decode cL_law 912 = .ok (.istore 6, 2) := dk_54 6 (dk_at dksL_law_32 0 rfl rfl)
theorem dL_law_914 : decode cL_law 914 = .ok (.aload_n 2, 1) := dk_44 (dk_at dksL_law_32 2 rfl rfl)
theorem dL_law_915 : decode cL_law 915 = .ok (.invokevirtual 154, 3) := dk_182 0 154 (dk_at dksL_law_32 3 rfl rfl)
theorem dL_law_918 : decode cL_law 918 = .ok (.iload 5, 2) := dk_21 5 (dk_at dksL_law_32 6 rfl rfl)
theorem dL_law_920 : decode cL_law 920 = .ok (.if_icmp .eq 5, 3) := dk_159 0 5 (dk_at dksL_law_32 8 rfl rfl)
theorem dL_law_923 : decode cL_law 923 = .ok (.iconst 0, 1) := dk_3 (dk_at dksL_law_32 11 rfl rfl)
theorem dL_law_924 : decode cL_law 924 = .ok (.ireturn, 1) := dk_172 (dk_at dksL_law_32 12 rfl rfl)
theorem dL_law_925 : decode cL_law 925 = .ok (.iload 5, 2) := dk_21 5 (dk_at dksL_law_32 13 rfl rfl)
theorem dL_law_927 : decode cL_law 927 = .ok (.ifCond .ne 15, 3) := dk_154 0 15 (dk_at dksL_law_32 15 rfl rfl)
theorem dL_law_930 : decode cL_law 930 = .ok (.aload_n 3, 1) := dk_45 (dk_at dksL_law_32 18 rfl rfl)
theorem dL_law_931 : decode cL_law 931 = .ok (.iconst 0, 1) := dk_3 (dk_at dksL_law_32 19 rfl rfl)
theorem dL_law_932 : decode cL_law 932 = .ok (.laload, 1) := dk_47 (dk_at dksL_law_32 20 rfl rfl)
theorem dL_law_933 : decode cL_law 933 = .ok (.iload 6, 2) := dk_21 6 (dk_at dksL_law_32 21 rfl rfl)
theorem dL_law_935 : decode cL_law 935 = .ok (.i2l, 1) := dk_133 (dk_at dksL_law_32 23 rfl rfl)
theorem dL_law_936 : decode cL_law 936 = .ok (.lcmp, 1) := dk_148 (dk_at dksL_law_33 0 rfl rfl)
theorem dL_law_937 : decode cL_law 937 = .ok (.ifCond .eq 5, 3) := dk_153 0 5 (dk_at dksL_law_33 1 rfl rfl)
theorem dL_law_940 : decode cL_law 940 = .ok (.iconst 0, 1) := dk_3 (dk_at dksL_law_33 4 rfl rfl)
theorem dL_law_941 : decode cL_law 941 = .ok (.ireturn, 1) := dk_172 (dk_at dksL_law_33 5 rfl rfl)
theorem dL_law_942 : decode cL_law 942 = .ok (.goto 1713, 3) := dk_167 6 177 (dk_at dksL_law_33 6 rfl rfl)
theorem dL_law_945 : decode cL_law 945 = .ok (.aload_n 1, 1) := dk_43 (dk_at dksL_law_33 9 rfl rfl)
theorem dL_law_946 : decode cL_law 946 = .ok (.aload_n 0, 1) := dk_42 (dk_at dksL_law_33 10 rfl rfl)
theorem dL_law_947 : decode cL_law 947 = .ok (.iload 4, 2) := dk_21 4 (dk_at dksL_law_33 11 rfl rfl)
theorem dL_law_949 : decode cL_law 949 = .ok (.iconst 1, 1) := dk_4 (dk_at dksL_law_33 13 rfl rfl)
theorem dL_law_950 : decode cL_law 950 = .ok (.iadd, 1) := dk_96 (dk_at dksL_law_33 14 rfl rfl)
theorem dL_law_951 : decode cL_law 951 = .ok (.iaload, 1) := dk_46 (dk_at dksL_law_33 15 rfl rfl)
theorem dL_law_952 : decode cL_law 952 = .ok (.aload_n 0, 1) := dk_42 (dk_at dksL_law_33 16 rfl rfl)
theorem dL_law_953 : decode cL_law 953 = .ok (.iload 4, 2) := dk_21 4 (dk_at dksL_law_33 17 rfl rfl)
theorem dL_law_955 : decode cL_law 955 = .ok (.iconst 2, 1) := dk_5 (dk_at dksL_law_33 19 rfl rfl)
theorem dL_law_956 : decode cL_law 956 = .ok (.iadd, 1) := dk_96 (dk_at dksL_law_33 20 rfl rfl)
theorem dL_law_957 : decode cL_law 957 = .ok (.iaload, 1) := dk_46 (dk_at dksL_law_33 21 rfl rfl)
theorem dL_law_958 : decode cL_law 958 = .ok (.aload_n 3, 1) := dk_45 (dk_at dksL_law_33 22 rfl rfl)
theorem dL_law_959 : decode cL_law 959 = .ok (.invokestatic 180, 3) := dk_184 0 180 (dk_at dksL_law_34 0 rfl rfl)
theorem dL_law_962 : decode cL_law 962 = .ok (.istore 5, 2) := dk_54 5 (dk_at dksL_law_34 3 rfl rfl)
theorem dL_law_964 : decode cL_law 964 = .ok (.aload_n 2, 1) := dk_44 (dk_at dksL_law_34 5 rfl rfl)
theorem dL_law_965 : decode cL_law 965 = .ok (.aload_n 0, 1) := dk_42 (dk_at dksL_law_34 6 rfl rfl)
theorem dL_law_966 : decode cL_law 966 = .ok (.iload 4, 2) := dk_21 4 (dk_at dksL_law_34 7 rfl rfl)
theorem dL_law_968 : decode cL_law 968 = .ok (.iconst 1, 1) := dk_4 (dk_at dksL_law_34 9 rfl rfl)
theorem dL_law_969 : decode cL_law 969 = .ok (.iadd, 1) := dk_96 (dk_at dksL_law_34 10 rfl rfl)
theorem dL_law_970 : decode cL_law 970 = .ok (.iaload, 1) := dk_46 (dk_at dksL_law_34 11 rfl rfl)
theorem dL_law_971 : decode cL_law 971 = .ok (.aload_n 0, 1) := dk_42 (dk_at dksL_law_34 12 rfl rfl)
theorem dL_law_972 : decode cL_law 972 = .ok (.iload 4, 2) := dk_21 4 (dk_at dksL_law_34 13 rfl rfl)
theorem dL_law_974 : decode cL_law 974 = .ok (.iconst 2, 1) := dk_5 (dk_at dksL_law_34 15 rfl rfl)
theorem dL_law_975 : decode cL_law 975 = .ok (.iadd, 1) := dk_96 (dk_at dksL_law_34 16 rfl rfl)
theorem dL_law_976 : decode cL_law 976 = .ok (.iaload, 1) := dk_46 (dk_at dksL_law_34 17 rfl rfl)
theorem dL_law_977 : decode cL_law 977 = .ok (.invokevirtual 182, 3) := dk_182 0 182 (dk_at dksL_law_34 18 rfl rfl)
theorem dL_law_980 : decode cL_law 980 = .ok (.istore 6, 2) := dk_54 6 (dk_at dksL_law_34 21 rfl rfl)
theorem dL_law_982 : decode cL_law 982 = .ok (.aload_n 2, 1) := dk_44 (dk_at dksL_law_34 23 rfl rfl)
theorem dL_law_983 : decode cL_law 983 = .ok (.invokevirtual 154, 3) := dk_182 0 154 (dk_at dksL_law_35 0 rfl rfl)
theorem dL_law_986 : decode cL_law 986 = .ok (.iload 5, 2) := dk_21 5 (dk_at dksL_law_35 3 rfl rfl)
theorem dL_law_988 : decode cL_law 988 = .ok (.if_icmp .eq 5, 3) := dk_159 0 5 (dk_at dksL_law_35 5 rfl rfl)
theorem dL_law_991 : decode cL_law 991 = .ok (.iconst 0, 1) := dk_3 (dk_at dksL_law_35 8 rfl rfl)
theorem dL_law_992 : decode cL_law 992 = .ok (.ireturn, 1) := dk_172 (dk_at dksL_law_35 9 rfl rfl)
theorem dL_law_993 : decode cL_law 993 = .ok (.iload 5, 2) := dk_21 5 (dk_at dksL_law_35 10 rfl rfl)
theorem dL_law_995 : decode cL_law 995 = .ok (.ifCond .ne 15, 3) := dk_154 0 15 (dk_at dksL_law_35 12 rfl rfl)
theorem dL_law_998 : decode cL_law 998 = .ok (.aload_n 3, 1) := dk_45 (dk_at dksL_law_35 15 rfl rfl)
theorem dL_law_999 : decode cL_law 999 = .ok (.iconst 0, 1) := dk_3 (dk_at dksL_law_35 16 rfl rfl)
theorem dL_law_1000 : decode cL_law 1000 = .ok (.laload, 1) := dk_47 (dk_at dksL_law_35 17 rfl rfl)
theorem dL_law_1001 : decode cL_law 1001 = .ok (.iload 6, 2) := dk_21 6 (dk_at dksL_law_35 18 rfl rfl)
theorem dL_law_1003 : decode cL_law 1003 = .ok (.i2l, 1) := dk_133 (dk_at dksL_law_35 20 rfl rfl)
theorem dL_law_1004 : decode cL_law 1004 = .ok (.lcmp, 1) := dk_148 (dk_at dksL_law_35 21 rfl rfl)
theorem dL_law_1005 : decode cL_law 1005 = .ok (.ifCond .eq 5, 3) := dk_153 0 5 (dk_at dksL_law_36 0 rfl rfl)
theorem dL_law_1008 : decode cL_law 1008 = .ok (.iconst 0, 1) := dk_3 (dk_at dksL_law_36 3 rfl rfl)
theorem dL_law_1009 : decode cL_law 1009 = .ok (.ireturn, 1) := dk_172 (dk_at dksL_law_36 4 rfl rfl)
theorem dL_law_1010 : decode cL_law 1010 = .ok (.goto 1645, 3) := dk_167 6 109 (dk_at dksL_law_36 5 rfl rfl)
theorem dL_law_1013 : decode cL_law 1013 = .ok (.aload_n 1, 1) := dk_43 (dk_at dksL_law_36 8 rfl rfl)
theorem dL_law_1014 : decode cL_law 1014 = .ok (.aload_n 0, 1) := dk_42 (dk_at dksL_law_36 9 rfl rfl)
theorem dL_law_1015 : decode cL_law 1015 = .ok (.iload 4, 2) := dk_21 4 (dk_at dksL_law_36 10 rfl rfl)
theorem dL_law_1017 : decode cL_law 1017 = .ok (.iconst 1, 1) := dk_4 (dk_at dksL_law_36 12 rfl rfl)
theorem dL_law_1018 : decode cL_law 1018 = .ok (.iadd, 1) := dk_96 (dk_at dksL_law_36 13 rfl rfl)
theorem dL_law_1019 : decode cL_law 1019 = .ok (.iaload, 1) := dk_46 (dk_at dksL_law_36 14 rfl rfl)
theorem dL_law_1020 : decode cL_law 1020 = .ok (.aload_n 0, 1) := dk_42 (dk_at dksL_law_36 15 rfl rfl)
theorem dL_law_1021 : decode cL_law 1021 = .ok (.iload 4, 2) := dk_21 4 (dk_at dksL_law_36 16 rfl rfl)
theorem dL_law_1023 : decode cL_law 1023 = .ok (.iconst 2, 1) := dk_5 (dk_at dksL_law_36 18 rfl rfl)
theorem dL_law_1024 : decode cL_law 1024 = .ok (.iadd, 1) := dk_96 (dk_at dksL_law_36 19 rfl rfl)
theorem dL_law_1025 : decode cL_law 1025 = .ok (.iaload, 1) := dk_46 (dk_at dksL_law_36 20 rfl rfl)
theorem dL_law_1026 : decode cL_law 1026 = .ok (.aload_n 0, 1) := dk_42 (dk_at dksL_law_36 21 rfl rfl)
theorem dL_law_1027 : decode cL_law 1027 = .ok (.iload 4, 2) := dk_21 4 (dk_at dksL_law_36 22 rfl rfl)
theorem dL_law_1029 : decode cL_law 1029 = .ok (.iconst 3, 1) := dk_6 (dk_at dksL_law_37 0 rfl rfl)
theorem dL_law_1030 : decode cL_law 1030 = .ok (.iadd, 1) := dk_96 (dk_at dksL_law_37 1 rfl rfl)
theorem dL_law_1031 : decode cL_law 1031 = .ok (.iaload, 1) := dk_46 (dk_at dksL_law_37 2 rfl rfl)
theorem dL_law_1032 : decode cL_law 1032 = .ok (.aload_n 0, 1) := dk_42 (dk_at dksL_law_37 3 rfl rfl)
theorem dL_law_1033 : decode cL_law 1033 = .ok (.iload 4, 2) := dk_21 4 (dk_at dksL_law_37 4 rfl rfl)
theorem dL_law_1035 : decode cL_law 1035 = .ok (.iconst 4, 1) := dk_7 (dk_at dksL_law_37 6 rfl rfl)
theorem dL_law_1036 : decode cL_law 1036 = .ok (.iadd, 1) := dk_96 (dk_at dksL_law_37 7 rfl rfl)
theorem dL_law_1037 : decode cL_law 1037 = .ok (.iaload, 1) := dk_46 (dk_at dksL_law_37 8 rfl rfl)
theorem dL_law_1038 : decode cL_law 1038 = .ok (.aload_n 3, 1) := dk_45 (dk_at dksL_law_37 9 rfl rfl)
theorem dL_law_1039 : decode cL_law 1039 = .ok (.invokestatic 183, 3) := dk_184 0 183 (dk_at dksL_law_37 10 rfl rfl)
theorem dL_law_1042 : decode cL_law 1042 = .ok (.istore 5, 2) := dk_54 5 (dk_at dksL_law_37 13 rfl rfl)
theorem dL_law_1044 : decode cL_law 1044 = .ok (.aload_n 2, 1) := dk_44 (dk_at dksL_law_37 15 rfl rfl)
theorem dL_law_1045 : decode cL_law 1045 = .ok (.aload_n 0, 1) := dk_42 (dk_at dksL_law_37 16 rfl rfl)
theorem dL_law_1046 : decode cL_law 1046 = .ok (.iload 4, 2) := dk_21 4 (dk_at dksL_law_37 17 rfl rfl)
theorem dL_law_1048 : decode cL_law 1048 = .ok (.iconst 1, 1) := dk_4 (dk_at dksL_law_37 19 rfl rfl)
theorem dL_law_1049 : decode cL_law 1049 = .ok (.iadd, 1) := dk_96 (dk_at dksL_law_37 20 rfl rfl)
theorem dL_law_1050 : decode cL_law 1050 = .ok (.iaload, 1) := dk_46 (dk_at dksL_law_37 21 rfl rfl)
theorem dL_law_1051 : decode cL_law 1051 = .ok (.aload_n 0, 1) := dk_42 (dk_at dksL_law_37 22 rfl rfl)
theorem dL_law_1052 : decode cL_law 1052 = .ok (.iload 4, 2) := dk_21 4 (dk_at dksL_law_38 0 rfl rfl)
theorem dL_law_1054 : decode cL_law 1054 = .ok (.iconst 2, 1) := dk_5 (dk_at dksL_law_38 2 rfl rfl)
theorem dL_law_1055 : decode cL_law 1055 = .ok (.iadd, 1) := dk_96 (dk_at dksL_law_38 3 rfl rfl)
theorem dL_law_1056 : decode cL_law 1056 = .ok (.iaload, 1) := dk_46 (dk_at dksL_law_38 4 rfl rfl)
theorem dL_law_1057 : decode cL_law 1057 = .ok (.aload_n 0, 1) := dk_42 (dk_at dksL_law_38 5 rfl rfl)
theorem dL_law_1058 : decode cL_law 1058 = .ok (.iload 4, 2) := dk_21 4 (dk_at dksL_law_38 6 rfl rfl)
theorem dL_law_1060 : decode cL_law 1060 = .ok (.iconst 3, 1) := dk_6 (dk_at dksL_law_38 8 rfl rfl)
theorem dL_law_1061 : decode cL_law 1061 = .ok (.iadd, 1) := dk_96 (dk_at dksL_law_38 9 rfl rfl)
theorem dL_law_1062 : decode cL_law 1062 = .ok (.iaload, 1) := dk_46 (dk_at dksL_law_38 10 rfl rfl)
theorem dL_law_1063 : decode cL_law 1063 = .ok (.aload_n 0, 1) := dk_42 (dk_at dksL_law_38 11 rfl rfl)
theorem dL_law_1064 : decode cL_law 1064 = .ok (.iload 4, 2) := dk_21 4 (dk_at dksL_law_38 12 rfl rfl)
theorem dL_law_1066 : decode cL_law 1066 = .ok (.iconst 4, 1) := dk_7 (dk_at dksL_law_38 14 rfl rfl)
theorem dL_law_1067 : decode cL_law 1067 = .ok (.iadd, 1) := dk_96 (dk_at dksL_law_38 15 rfl rfl)
theorem dL_law_1068 : decode cL_law 1068 = .ok (.iaload, 1) := dk_46 (dk_at dksL_law_38 16 rfl rfl)
theorem dL_law_1069 : decode cL_law 1069 = .ok (.invokevirtual 186, 3) := dk_182 0 186 (dk_at dksL_law_38 17 rfl rfl)
theorem dL_law_1072 : decode cL_law 1072 = .ok (.istore 6, 2) := dk_54 6 (dk_at dksL_law_38 20 rfl rfl)
theorem dL_law_1074 : decode cL_law 1074 = .ok (.aload_n 2, 1) := dk_44 (dk_at dksL_law_38 22 rfl rfl)
theorem dL_law_1075 : decode cL_law 1075 = .ok (.invokevirtual 154, 3) := dk_182 0 154 (dk_at dksL_law_39 0 rfl rfl)
theorem dL_law_1078 : decode cL_law 1078 = .ok (.iload 5, 2) := dk_21 5 (dk_at dksL_law_39 3 rfl rfl)
theorem dL_law_1080 : decode cL_law 1080 = .ok (.if_icmp .eq 5, 3) := dk_159 0 5 (dk_at dksL_law_39 5 rfl rfl)
theorem dL_law_1083 : decode cL_law 1083 = .ok (.iconst 0, 1) := dk_3 (dk_at dksL_law_39 8 rfl rfl)
theorem dL_law_1084 : decode cL_law 1084 = .ok (.ireturn, 1) := dk_172 (dk_at dksL_law_39 9 rfl rfl)
theorem dL_law_1085 : decode cL_law 1085 = .ok (.iload 5, 2) := dk_21 5 (dk_at dksL_law_39 10 rfl rfl)
theorem dL_law_1087 : decode cL_law 1087 = .ok (.ifCond .ne 15, 3) := dk_154 0 15 (dk_at dksL_law_39 12 rfl rfl)
theorem dL_law_1090 : decode cL_law 1090 = .ok (.aload_n 3, 1) := dk_45 (dk_at dksL_law_39 15 rfl rfl)
theorem dL_law_1091 : decode cL_law 1091 = .ok (.iconst 0, 1) := dk_3 (dk_at dksL_law_39 16 rfl rfl)
theorem dL_law_1092 : decode cL_law 1092 = .ok (.laload, 1) := dk_47 (dk_at dksL_law_39 17 rfl rfl)
theorem dL_law_1093 : decode cL_law 1093 = .ok (.iload 6, 2) := dk_21 6 (dk_at dksL_law_39 18 rfl rfl)
theorem dL_law_1095 : decode cL_law 1095 = .ok (.i2l, 1) := dk_133 (dk_at dksL_law_39 20 rfl rfl)
theorem dL_law_1096 : decode cL_law 1096 = .ok (.lcmp, 1) := dk_148 (dk_at dksL_law_39 21 rfl rfl)
theorem dL_law_1097 : decode cL_law 1097 = .ok (.ifCond .eq 5, 3) := dk_153 0 5 (dk_at dksL_law_40 0 rfl rfl)
theorem dL_law_1100 : decode cL_law 1100 = .ok (.iconst 0, 1) := dk_3 (dk_at dksL_law_40 3 rfl rfl)
theorem dL_law_1101 : decode cL_law 1101 = .ok (.ireturn, 1) := dk_172 (dk_at dksL_law_40 4 rfl rfl)
theorem dL_law_1102 : decode cL_law 1102 = .ok (.goto 1553, 3) := dk_167 6 17 (dk_at dksL_law_40 5 rfl rfl)
theorem dL_law_1105 : decode cL_law 1105 = .ok (.aload_n 1, 1) := dk_43 (dk_at dksL_law_40 8 rfl rfl)
theorem dL_law_1106 : decode cL_law 1106 = .ok (.aload_n 0, 1) := dk_42 (dk_at dksL_law_40 9 rfl rfl)
theorem dL_law_1107 : decode cL_law 1107 = .ok (.iload 4, 2) := dk_21 4 (dk_at dksL_law_40 10 rfl rfl)
theorem dL_law_1109 : decode cL_law 1109 = .ok (.iconst 1, 1) := dk_4 (dk_at dksL_law_40 12 rfl rfl)
theorem dL_law_1110 : decode cL_law 1110 = .ok (.iadd, 1) := dk_96 (dk_at dksL_law_40 13 rfl rfl)
theorem dL_law_1111 : decode cL_law 1111 = .ok (.iaload, 1) := dk_46 (dk_at dksL_law_40 14 rfl rfl)
theorem dL_law_1112 : decode cL_law 1112 = .ok (.aload_n 0, 1) := dk_42 (dk_at dksL_law_40 15 rfl rfl)
theorem dL_law_1113 : decode cL_law 1113 = .ok (.iload 4, 2) := dk_21 4 (dk_at dksL_law_40 16 rfl rfl)
theorem dL_law_1115 : decode cL_law 1115 = .ok (.iconst 2, 1) := dk_5 (dk_at dksL_law_40 18 rfl rfl)
theorem dL_law_1116 : decode cL_law 1116 = .ok (.iadd, 1) := dk_96 (dk_at dksL_law_40 19 rfl rfl)
theorem dL_law_1117 : decode cL_law 1117 = .ok (.iaload, 1) := dk_46 (dk_at dksL_law_40 20 rfl rfl)
theorem dL_law_1118 : decode cL_law 1118 = .ok (.aload_n 3, 1) := dk_45 (dk_at dksL_law_40 21 rfl rfl)
theorem dL_law_1119 : decode cL_law 1119 = .ok (.invokestatic 187, 3) := dk_184 0 187 (dk_at dksL_law_41 0 rfl rfl)
theorem dL_law_1122 : decode cL_law 1122 = .ok (.istore 5, 2) := dk_54 5 (dk_at dksL_law_41 3 rfl rfl)
theorem dL_law_1124 : decode cL_law 1124 = .ok (.aload_n 2, 1) := dk_44 (dk_at dksL_law_41 5 rfl rfl)
theorem dL_law_1125 : decode cL_law 1125 = .ok (.aload_n 0, 1) := dk_42 (dk_at dksL_law_41 6 rfl rfl)
theorem dL_law_1126 : decode cL_law 1126 = .ok (.iload 4, 2) := dk_21 4 (dk_at dksL_law_41 7 rfl rfl)
theorem dL_law_1128 : decode cL_law 1128 = .ok (.iconst 1, 1) := dk_4 (dk_at dksL_law_41 9 rfl rfl)
theorem dL_law_1129 : decode cL_law 1129 = .ok (.iadd, 1) := dk_96 (dk_at dksL_law_41 10 rfl rfl)
theorem dL_law_1130 : decode cL_law 1130 = .ok (.iaload, 1) := dk_46 (dk_at dksL_law_41 11 rfl rfl)
theorem dL_law_1131 : decode cL_law 1131 = .ok (.aload_n 0, 1) := dk_42 (dk_at dksL_law_41 12 rfl rfl)
theorem dL_law_1132 : decode cL_law 1132 = .ok (.iload 4, 2) := dk_21 4 (dk_at dksL_law_41 13 rfl rfl)
theorem dL_law_1134 : decode cL_law 1134 = .ok (.iconst 2, 1) := dk_5 (dk_at dksL_law_41 15 rfl rfl)
theorem dL_law_1135 : decode cL_law 1135 = .ok (.iadd, 1) := dk_96 (dk_at dksL_law_41 16 rfl rfl)
theorem dL_law_1136 : decode cL_law 1136 = .ok (.iaload, 1) := dk_46 (dk_at dksL_law_41 17 rfl rfl)
theorem dL_law_1137 : decode cL_law 1137 = .ok (.invokevirtual 189, 3) := dk_182 0 189 (dk_at dksL_law_41 18 rfl rfl)
theorem dL_law_1140 : decode cL_law 1140 = .ok (.istore 6, 2) := dk_54 6 (dk_at dksL_law_41 21 rfl rfl)
theorem dL_law_1142 : decode cL_law 1142 = .ok (.aload_n 2, 1) := dk_44 (dk_at dksL_law_41 23 rfl rfl)
theorem dL_law_1143 : decode cL_law 1143 = .ok (.invokevirtual 154, 3) := dk_182 0 154 (dk_at dksL_law_42 0 rfl rfl)
theorem dL_law_1146 : decode cL_law 1146 = .ok (.iload 5, 2) := dk_21 5 (dk_at dksL_law_42 3 rfl rfl)
theorem dL_law_1148 : decode cL_law 1148 = .ok (.if_icmp .eq 5, 3) := dk_159 0 5 (dk_at dksL_law_42 5 rfl rfl)
theorem dL_law_1151 : decode cL_law 1151 = .ok (.iconst 0, 1) := dk_3 (dk_at dksL_law_42 8 rfl rfl)
theorem dL_law_1152 : decode cL_law 1152 = .ok (.ireturn, 1) := dk_172 (dk_at dksL_law_42 9 rfl rfl)
theorem dL_law_1153 : decode cL_law 1153 = .ok (.iload 5, 2) := dk_21 5 (dk_at dksL_law_42 10 rfl rfl)
theorem dL_law_1155 : decode cL_law 1155 = .ok (.ifCond .ne 22, 3) := dk_154 0 22 (dk_at dksL_law_42 12 rfl rfl)
theorem dL_law_1158 : decode cL_law 1158 = .ok (.aload_n 3, 1) := dk_45 (dk_at dksL_law_42 15 rfl rfl)
theorem dL_law_1159 : decode cL_law 1159 = .ok (.iconst 0, 1) := dk_3 (dk_at dksL_law_42 16 rfl rfl)
theorem dL_law_1160 : decode cL_law 1160 = .ok (.laload, 1) := dk_47 (dk_at dksL_law_42 17 rfl rfl)
theorem dL_law_1161 : decode cL_law 1161 = .ok (.iload 6, 2) := dk_21 6 (dk_at dksL_law_42 18 rfl rfl)
theorem dL_law_1163 : decode cL_law 1163 = .ok (.ifCond .eq 7, 3) := dk_153 0 7 (dk_at dksL_law_42 20 rfl rfl)
theorem dL_law_1166 : decode cL_law 1166 = .ok (.lconst 1, 1) := dk_10 (dk_at dksL_law_42 23 rfl rfl)
theorem dL_law_1167 : decode cL_law 1167 = .ok (.goto 4, 3) := dk_167 0 4 (dk_at dksL_law_43 0 rfl rfl)
theorem dL_law_1170 : decode cL_law 1170 = .ok (.lconst 0, 1) := dk_9 (dk_at dksL_law_43 3 rfl rfl)
theorem dL_law_1171 : decode cL_law 1171 = .ok (.lcmp, 1) := dk_148 (dk_at dksL_law_43 4 rfl rfl)
theorem dL_law_1172 : decode cL_law 1172 = .ok (.ifCond .eq 5, 3) := dk_153 0 5 (dk_at dksL_law_43 5 rfl rfl)
theorem dL_law_1175 : decode cL_law 1175 = .ok (.iconst 0, 1) := dk_3 (dk_at dksL_law_43 8 rfl rfl)
theorem dL_law_1176 : decode cL_law 1176 = .ok (.ireturn, 1) := dk_172 (dk_at dksL_law_43 9 rfl rfl)
theorem dL_law_1177 : decode cL_law 1177 = .ok (.goto 1478, 3) := dk_167 5 198 (dk_at dksL_law_43 10 rfl rfl)
theorem dL_law_1180 : decode cL_law 1180 = .ok (.aload_n 1, 1) := dk_43 (dk_at dksL_law_43 13 rfl rfl)
theorem dL_law_1181 : decode cL_law 1181 = .ok (.aload_n 0, 1) := dk_42 (dk_at dksL_law_43 14 rfl rfl)
theorem dL_law_1182 : decode cL_law 1182 = .ok (.iload 4, 2) := dk_21 4 (dk_at dksL_law_43 15 rfl rfl)
theorem dL_law_1184 : decode cL_law 1184 = .ok (.iconst 1, 1) := dk_4 (dk_at dksL_law_43 17 rfl rfl)
theorem dL_law_1185 : decode cL_law 1185 = .ok (.iadd, 1) := dk_96 (dk_at dksL_law_43 18 rfl rfl)
theorem dL_law_1186 : decode cL_law 1186 = .ok (.iaload, 1) := dk_46 (dk_at dksL_law_43 19 rfl rfl)
theorem dL_law_1187 : decode cL_law 1187 = .ok (.aload_n 0, 1) := dk_42 (dk_at dksL_law_43 20 rfl rfl)
theorem dL_law_1188 : decode cL_law 1188 = .ok (.iload 4, 2) := dk_21 4 (dk_at dksL_law_43 21 rfl rfl)
theorem dL_law_1190 : decode cL_law 1190 = .ok (.iconst 2, 1) := dk_5 (dk_at dksL_law_43 23 rfl rfl)
theorem dL_law_1191 : decode cL_law 1191 = .ok (.iadd, 1) := dk_96 (dk_at dksL_law_44 0 rfl rfl)
theorem dL_law_1192 : decode cL_law 1192 = .ok (.iaload, 1) := dk_46 (dk_at dksL_law_44 1 rfl rfl)
theorem dL_law_1193 : decode cL_law 1193 = .ok (.aload_n 3, 1) := dk_45 (dk_at dksL_law_44 2 rfl rfl)
theorem dL_law_1194 : decode cL_law 1194 = .ok (.invokestatic 190, 3) := dk_184 0 190 (dk_at dksL_law_44 3 rfl rfl)
theorem dL_law_1197 : decode cL_law 1197 = .ok (.istore 5, 2) := dk_54 5 (dk_at dksL_law_44 6 rfl rfl)
theorem dL_law_1199 : decode cL_law 1199 = .ok (.aload_n 2, 1) := dk_44 (dk_at dksL_law_44 8 rfl rfl)
theorem dL_law_1200 : decode cL_law 1200 = .ok (.aload_n 0, 1) := dk_42 (dk_at dksL_law_44 9 rfl rfl)
theorem dL_law_1201 : decode cL_law 1201 = .ok (.iload 4, 2) := dk_21 4 (dk_at dksL_law_44 10 rfl rfl)
theorem dL_law_1203 : decode cL_law 1203 = .ok (.iconst 1, 1) := dk_4 (dk_at dksL_law_44 12 rfl rfl)
theorem dL_law_1204 : decode cL_law 1204 = .ok (.iadd, 1) := dk_96 (dk_at dksL_law_44 13 rfl rfl)
theorem dL_law_1205 : decode cL_law 1205 = .ok (.iaload, 1) := dk_46 (dk_at dksL_law_44 14 rfl rfl)
theorem dL_law_1206 : decode cL_law 1206 = .ok (.aload_n 0, 1) := dk_42 (dk_at dksL_law_44 15 rfl rfl)
theorem dL_law_1207 : decode cL_law 1207 = .ok (.iload 4, 2) := dk_21 4 (dk_at dksL_law_44 16 rfl rfl)
theorem dL_law_1209 : decode cL_law 1209 = .ok (.iconst 2, 1) := dk_5 (dk_at dksL_law_44 18 rfl rfl)
theorem dL_law_1210 : decode cL_law 1210 = .ok (.iadd, 1) := dk_96 (dk_at dksL_law_44 19 rfl rfl)
theorem dL_law_1211 : decode cL_law 1211 = .ok (.iaload, 1) := dk_46 (dk_at dksL_law_44 20 rfl rfl)
theorem dL_law_1212 : decode cL_law 1212 = .ok (.invokevirtual 192, 3) := dk_182 0 192 (dk_at dksL_law_44 21 rfl rfl)
theorem dL_law_1215 : decode cL_law 1215 = .ok (.istore 6, 2) := dk_54 6 (dk_at dksL_law_45 0 rfl rfl)
theorem dL_law_1217 : decode cL_law 1217 = .ok (.aload_n 2, 1) := dk_44 (dk_at dksL_law_45 2 rfl rfl)
theorem dL_law_1218 : decode cL_law 1218 = .ok (.invokevirtual 154, 3) := dk_182 0 154 (dk_at dksL_law_45 3 rfl rfl)
theorem dL_law_1221 : decode cL_law 1221 = .ok (.iload 5, 2) := dk_21 5 (dk_at dksL_law_45 6 rfl rfl)
theorem dL_law_1223 : decode cL_law 1223 = .ok (.if_icmp .eq 5, 3) := dk_159 0 5 (dk_at dksL_law_45 8 rfl rfl)
theorem dL_law_1226 : decode cL_law 1226 = .ok (.iconst 0, 1) := dk_3 (dk_at dksL_law_45 11 rfl rfl)
theorem dL_law_1227 : decode cL_law 1227 = .ok (.ireturn, 1) := dk_172 (dk_at dksL_law_45 12 rfl rfl)
theorem dL_law_1228 : decode cL_law 1228 = .ok (.iload 5, 2) := dk_21 5 (dk_at dksL_law_45 13 rfl rfl)
theorem dL_law_1230 : decode cL_law 1230 = .ok (.ifCond .ne 15, 3) := dk_154 0 15 (dk_at dksL_law_45 15 rfl rfl)
theorem dL_law_1233 : decode cL_law 1233 = .ok (.aload_n 3, 1) := dk_45 (dk_at dksL_law_45 18 rfl rfl)
theorem dL_law_1234 : decode cL_law 1234 = .ok (.iconst 0, 1) := dk_3 (dk_at dksL_law_45 19 rfl rfl)
theorem dL_law_1235 : decode cL_law 1235 = .ok (.laload, 1) := dk_47 (dk_at dksL_law_45 20 rfl rfl)
theorem dL_law_1236 : decode cL_law 1236 = .ok (.iload 6, 2) := dk_21 6 (dk_at dksL_law_45 21 rfl rfl)
theorem dL_law_1238 : decode cL_law 1238 = .ok (.i2l, 1) := dk_133 (dk_at dksL_law_45 23 rfl rfl)
theorem dL_law_1239 : decode cL_law 1239 = .ok (.lcmp, 1) := dk_148 (dk_at dksL_law_46 0 rfl rfl)
theorem dL_law_1240 : decode cL_law 1240 = .ok (.ifCond .eq 5, 3) := dk_153 0 5 (dk_at dksL_law_46 1 rfl rfl)
theorem dL_law_1243 : decode cL_law 1243 = .ok (.iconst 0, 1) := dk_3 (dk_at dksL_law_46 4 rfl rfl)
theorem dL_law_1244 : decode cL_law 1244 = .ok (.ireturn, 1) := dk_172 (dk_at dksL_law_46 5 rfl rfl)
theorem dL_law_1245 : decode cL_law 1245 = .ok (.goto 1410, 3) := dk_167 5 130 (dk_at dksL_law_46 6 rfl rfl)
theorem dL_law_1248 : decode cL_law 1248 = .ok (.aload_n 1, 1) := dk_43 (dk_at dksL_law_46 9 rfl rfl)
theorem dL_law_1249 : decode cL_law 1249 = .ok (.aload_n 0, 1) := dk_42 (dk_at dksL_law_46 10 rfl rfl)
theorem dL_law_1250 : decode cL_law 1250 = .ok (.iload 4, 2) := dk_21 4 (dk_at dksL_law_46 11 rfl rfl)
theorem dL_law_1252 : decode cL_law 1252 = .ok (.iconst 1, 1) := dk_4 (dk_at dksL_law_46 13 rfl rfl)
theorem dL_law_1253 : decode cL_law 1253 = .ok (.iadd, 1) := dk_96 (dk_at dksL_law_46 14 rfl rfl)
theorem dL_law_1254 : decode cL_law 1254 = .ok (.iaload, 1) := dk_46 (dk_at dksL_law_46 15 rfl rfl)
theorem dL_law_1255 : decode cL_law 1255 = .ok (.aload_n 0, 1) := dk_42 (dk_at dksL_law_46 16 rfl rfl)
theorem dL_law_1256 : decode cL_law 1256 = .ok (.iload 4, 2) := dk_21 4 (dk_at dksL_law_46 17 rfl rfl)
theorem dL_law_1258 : decode cL_law 1258 = .ok (.iconst 2, 1) := dk_5 (dk_at dksL_law_46 19 rfl rfl)
theorem dL_law_1259 : decode cL_law 1259 = .ok (.iadd, 1) := dk_96 (dk_at dksL_law_46 20 rfl rfl)
theorem dL_law_1260 : decode cL_law 1260 = .ok (.iaload, 1) := dk_46 (dk_at dksL_law_46 21 rfl rfl)
theorem dL_law_1261 : decode cL_law 1261 = .ok (.aload_n 3, 1) := dk_45 (dk_at dksL_law_46 22 rfl rfl)
theorem dL_law_1262 : decode cL_law 1262 = .ok (.invokestatic 193, 3) := dk_184 0 193 (dk_at dksL_law_47 0 rfl rfl)
theorem dL_law_1265 : decode cL_law 1265 = .ok (.istore 5, 2) := dk_54 5 (dk_at dksL_law_47 3 rfl rfl)
theorem dL_law_1267 : decode cL_law 1267 = .ok (.aload_n 2, 1) := dk_44 (dk_at dksL_law_47 5 rfl rfl)
theorem dL_law_1268 : decode cL_law 1268 = .ok (.aload_n 0, 1) := dk_42 (dk_at dksL_law_47 6 rfl rfl)
theorem dL_law_1269 : decode cL_law 1269 = .ok (.iload 4, 2) := dk_21 4 (dk_at dksL_law_47 7 rfl rfl)
theorem dL_law_1271 : decode cL_law 1271 = .ok (.iconst 1, 1) := dk_4 (dk_at dksL_law_47 9 rfl rfl)
theorem dL_law_1272 : decode cL_law 1272 = .ok (.iadd, 1) := dk_96 (dk_at dksL_law_47 10 rfl rfl)
theorem dL_law_1273 : decode cL_law 1273 = .ok (.iaload, 1) := dk_46 (dk_at dksL_law_47 11 rfl rfl)
theorem dL_law_1274 : decode cL_law 1274 = .ok (.aload_n 0, 1) := dk_42 (dk_at dksL_law_47 12 rfl rfl)
theorem dL_law_1275 : decode cL_law 1275 = .ok (.iload 4, 2) := dk_21 4 (dk_at dksL_law_47 13 rfl rfl)
theorem dL_law_1277 : decode cL_law 1277 = .ok (.iconst 2, 1) := dk_5 (dk_at dksL_law_47 15 rfl rfl)
theorem dL_law_1278 : decode cL_law 1278 = .ok (.iadd, 1) := dk_96 (dk_at dksL_law_47 16 rfl rfl)
theorem dL_law_1279 : decode cL_law 1279 = .ok (.iaload, 1) := dk_46 (dk_at dksL_law_47 17 rfl rfl)
theorem dL_law_1280 : decode cL_law 1280 = .ok (.invokevirtual 195, 3) := dk_182 0 195 (dk_at dksL_law_47 18 rfl rfl)
theorem dL_law_1283 : decode cL_law 1283 = .ok (.istore 6, 2) := dk_54 6 (dk_at dksL_law_47 21 rfl rfl)
theorem dL_law_1285 : decode cL_law 1285 = .ok (.aload_n 2, 1) := dk_44 (dk_at dksL_law_47 23 rfl rfl)
theorem dL_law_1286 : decode cL_law 1286 = .ok (.invokevirtual 154, 3) := dk_182 0 154 (dk_at dksL_law_48 0 rfl rfl)
theorem dL_law_1289 : decode cL_law 1289 = .ok (.iload 5, 2) := dk_21 5 (dk_at dksL_law_48 3 rfl rfl)
theorem dL_law_1291 : decode cL_law 1291 = .ok (.if_icmp .eq 5, 3) := dk_159 0 5 (dk_at dksL_law_48 5 rfl rfl)
theorem dL_law_1294 : decode cL_law 1294 = .ok (.iconst 0, 1) := dk_3 (dk_at dksL_law_48 8 rfl rfl)
theorem dL_law_1295 : decode cL_law 1295 = .ok (.ireturn, 1) := dk_172 (dk_at dksL_law_48 9 rfl rfl)
theorem dL_law_1296 : decode cL_law 1296 = .ok (.iload 5, 2) := dk_21 5 (dk_at dksL_law_48 10 rfl rfl)
theorem dL_law_1298 : decode cL_law 1298 = .ok (.ifCond .ne 15, 3) := dk_154 0 15 (dk_at dksL_law_48 12 rfl rfl)
theorem dL_law_1301 : decode cL_law 1301 = .ok (.aload_n 3, 1) := dk_45 (dk_at dksL_law_48 15 rfl rfl)
theorem dL_law_1302 : decode cL_law 1302 = .ok (.iconst 0, 1) := dk_3 (dk_at dksL_law_48 16 rfl rfl)
theorem dL_law_1303 : decode cL_law 1303 = .ok (.laload, 1) := dk_47 (dk_at dksL_law_48 17 rfl rfl)
theorem dL_law_1304 : decode cL_law 1304 = .ok (.iload 6, 2) := dk_21 6 (dk_at dksL_law_48 18 rfl rfl)
theorem dL_law_1306 : decode cL_law 1306 = .ok (.i2l, 1) := dk_133 (dk_at dksL_law_48 20 rfl rfl)
theorem dL_law_1307 : decode cL_law 1307 = .ok (.lcmp, 1) := dk_148 (dk_at dksL_law_48 21 rfl rfl)
theorem dL_law_1308 : decode cL_law 1308 = .ok (.ifCond .eq 5, 3) := dk_153 0 5 (dk_at dksL_law_49 0 rfl rfl)
theorem dL_law_1311 : decode cL_law 1311 = .ok (.iconst 0, 1) := dk_3 (dk_at dksL_law_49 3 rfl rfl)
theorem dL_law_1312 : decode cL_law 1312 = .ok (.ireturn, 1) := dk_172 (dk_at dksL_law_49 4 rfl rfl)
theorem dL_law_1313 : decode cL_law 1313 = .ok (.goto 1342, 3) := dk_167 5 62 (dk_at dksL_law_49 5 rfl rfl)
theorem dL_law_1316 : decode cL_law 1316 = .ok (.aload_n 1, 1) := dk_43 (dk_at dksL_law_49 8 rfl rfl)
theorem dL_law_1317 : decode cL_law 1317 = .ok (.aload_n 0, 1) := dk_42 (dk_at dksL_law_49 9 rfl rfl)
theorem dL_law_1318 : decode cL_law 1318 = .ok (.iload 4, 2) := dk_21 4 (dk_at dksL_law_49 10 rfl rfl)
theorem dL_law_1320 : decode cL_law 1320 = .ok (.iconst 1, 1) := dk_4 (dk_at dksL_law_49 12 rfl rfl)
theorem dL_law_1321 : decode cL_law 1321 = .ok (.iadd, 1) := dk_96 (dk_at dksL_law_49 13 rfl rfl)
theorem dL_law_1322 : decode cL_law 1322 = .ok (.iaload, 1) := dk_46 (dk_at dksL_law_49 14 rfl rfl)
theorem dL_law_1323 : decode cL_law 1323 = .ok (.aload_n 3, 1) := dk_45 (dk_at dksL_law_49 15 rfl rfl)
theorem dL_law_1324 : decode cL_law 1324 = .ok (.invokestatic 196, 3) := dk_184 0 196 (dk_at dksL_law_49 16 rfl rfl)
theorem dL_law_1327 : decode cL_law 1327 = .ok (.istore 5, 2) := dk_54 5 (dk_at dksL_law_49 19 rfl rfl)
theorem dL_law_1329 : decode cL_law 1329 = .ok (.aload_n 2, 1) := dk_44 (dk_at dksL_law_49 21 rfl rfl)
theorem dL_law_1330 : decode cL_law 1330 = .ok (.aload_n 0, 1) := dk_42 (dk_at dksL_law_49 22 rfl rfl)
theorem dL_law_1331 : decode cL_law 1331 = .ok (.iload 4, 2) := dk_21 4 (dk_at dksL_law_50 0 rfl rfl)
theorem dL_law_1333 : decode cL_law 1333 = .ok (.iconst 1, 1) := dk_4 (dk_at dksL_law_50 2 rfl rfl)
theorem dL_law_1334 : decode cL_law 1334 = .ok (.iadd, 1) := dk_96 (dk_at dksL_law_50 3 rfl rfl)
theorem dL_law_1335 : decode cL_law 1335 = .ok (.iaload, 1) := dk_46 (dk_at dksL_law_50 4 rfl rfl)
theorem dL_law_1336 : decode cL_law 1336 = .ok (.invokevirtual 198, 3) := dk_182 0 198 (dk_at dksL_law_50 5 rfl rfl)
theorem dL_law_1339 : decode cL_law 1339 = .ok (.istore 6, 2) := dk_54 6 (dk_at dksL_law_50 8 rfl rfl)
theorem dL_law_1341 : decode cL_law 1341 = .ok (.aload_n 2, 1) := dk_44 (dk_at dksL_law_50 10 rfl rfl)
theorem dL_law_1342 : decode cL_law 1342 = .ok (.invokevirtual 154, 3) := dk_182 0 154 (dk_at dksL_law_50 11 rfl rfl)
theorem dL_law_1345 : decode cL_law 1345 = .ok (.iload 5, 2) := dk_21 5 (dk_at dksL_law_50 14 rfl rfl)
theorem dL_law_1347 : decode cL_law 1347 = .ok (.if_icmp .eq 5, 3) := dk_159 0 5 (dk_at dksL_law_50 16 rfl rfl)
theorem dL_law_1350 : decode cL_law 1350 = .ok (.iconst 0, 1) := dk_3 (dk_at dksL_law_50 19 rfl rfl)
theorem dL_law_1351 : decode cL_law 1351 = .ok (.ireturn, 1) := dk_172 (dk_at dksL_law_50 20 rfl rfl)
theorem dL_law_1352 : decode cL_law 1352 = .ok (.iload 5, 2) := dk_21 5 (dk_at dksL_law_50 21 rfl rfl)
theorem dL_law_1354 : decode cL_law 1354 = .ok (.ifCond .ne 15, 3) := dk_154 0 15 (dk_at dksL_law_51 0 rfl rfl)
theorem dL_law_1357 : decode cL_law 1357 = .ok (.aload_n 3, 1) := dk_45 (dk_at dksL_law_51 3 rfl rfl)
theorem dL_law_1358 : decode cL_law 1358 = .ok (.iconst 0, 1) := dk_3 (dk_at dksL_law_51 4 rfl rfl)
theorem dL_law_1359 : decode cL_law 1359 = .ok (.laload, 1) := dk_47 (dk_at dksL_law_51 5 rfl rfl)
theorem dL_law_1360 : decode cL_law 1360 = .ok (.iload 6, 2) := dk_21 6 (dk_at dksL_law_51 6 rfl rfl)
theorem dL_law_1362 : decode cL_law 1362 = .ok (.i2l, 1) := dk_133 (dk_at dksL_law_51 8 rfl rfl)
theorem dL_law_1363 : decode cL_law 1363 = .ok (.lcmp, 1) := dk_148 (dk_at dksL_law_51 9 rfl rfl)
theorem dL_law_1364 : decode cL_law 1364 = .ok (.ifCond .eq 5, 3) := dk_153 0 5 (dk_at dksL_law_51 10 rfl rfl)
theorem dL_law_1367 : decode cL_law 1367 = .ok (.iconst 0, 1) := dk_3 (dk_at dksL_law_51 13 rfl rfl)
theorem dL_law_1368 : decode cL_law 1368 = .ok (.ireturn, 1) := dk_172 (dk_at dksL_law_51 14 rfl rfl)
theorem dL_law_1369 : decode cL_law 1369 = .ok (.goto 1286, 3) := dk_167 5 6 (dk_at dksL_law_51 15 rfl rfl)
theorem dL_law_1372 : decode cL_law 1372 = .ok (.aload_n 1, 1) := dk_43 (dk_at dksL_law_51 18 rfl rfl)
theorem dL_law_1373 : decode cL_law 1373 = .ok (.aload_n 0, 1) := dk_42 (dk_at dksL_law_51 19 rfl rfl)
theorem dL_law_1374 : decode cL_law 1374 = .ok (.iload 4, 2) := dk_21 4 (dk_at dksL_law_51 20 rfl rfl)
theorem dL_law_1376 : decode cL_law 1376 = .ok (.iconst 1, 1) := dk_4 (dk_at dksL_law_51 22 rfl rfl)
theorem dL_law_1377 : decode cL_law 1377 = .ok (.iadd, 1) := dk_96 (dk_at dksL_law_51 23 rfl rfl)
theorem dL_law_1378 : decode cL_law 1378 = .ok (.iaload, 1) := dk_46 (dk_at dksL_law_52 0 rfl rfl)
theorem dL_law_1379 : decode cL_law 1379 = .ok (.invokevirtual 199, 3) := dk_182 0 199 (dk_at dksL_law_52 1 rfl rfl)
theorem dL_law_1382 : decode cL_law 1382 = .ok (.aload_n 2, 1) := dk_44 (dk_at dksL_law_52 4 rfl rfl)
theorem dL_law_1383 : decode cL_law 1383 = .ok (.aload_n 0, 1) := dk_42 (dk_at dksL_law_52 5 rfl rfl)
theorem dL_law_1384 : decode cL_law 1384 = .ok (.iload 4, 2) := dk_21 4 (dk_at dksL_law_52 6 rfl rfl)
theorem dL_law_1386 : decode cL_law 1386 = .ok (.iconst 1, 1) := dk_4 (dk_at dksL_law_52 8 rfl rfl)
theorem dL_law_1387 : decode cL_law 1387 = .ok (.iadd, 1) := dk_96 (dk_at dksL_law_52 9 rfl rfl)
theorem dL_law_1388 : decode cL_law 1388 = .ok (.iaload, 1) := dk_46 (dk_at dksL_law_52 10 rfl rfl)
theorem dL_law_1389 : decode cL_law 1389 = .ok (.invokevirtual 202, 3) := dk_182 0 202 (dk_at dksL_law_52 11 rfl rfl)
theorem dL_law_1392 : decode cL_law 1392 = .ok (.if_icmp .eq 1263, 3) := dk_159 4 239 (dk_at dksL_law_52 14 rfl rfl)
theorem dL_law_1395 : decode cL_law 1395 = .ok (.iconst 0, 1) := dk_3 (dk_at dksL_law_52 17 rfl rfl)
theorem dL_law_1396 : decode cL_law 1396 = .ok (.ireturn, 1) := dk_172 (dk_at dksL_law_52 18 rfl rfl)
theorem dL_law_1397 : decode cL_law 1397 = .ok (.aload_n 1, 1) := dk_43 (dk_at dksL_law_52 19 rfl rfl)
theorem dL_law_1398 : decode cL_law 1398 = .ok (.aload_n 0, 1) := dk_42 (dk_at dksL_law_52 20 rfl rfl)
theorem dL_law_1399 : decode cL_law 1399 = .ok (.iload 4, 2) := dk_21 4 (dk_at dksL_law_52 21 rfl rfl)
theorem dL_law_1401 : decode cL_law 1401 = .ok (.iconst 1, 1) := dk_4 (dk_at dksL_law_52 23 rfl rfl)
theorem dL_law_1402 : decode cL_law 1402 = .ok (.iadd, 1) := dk_96 (dk_at dksL_law_53 0 rfl rfl)
theorem dL_law_1403 : decode cL_law 1403 = .ok (.iaload, 1) := dk_46 (dk_at dksL_law_53 1 rfl rfl)
theorem dL_law_1404 : decode cL_law 1404 = .ok (.aload_n 0, 1) := dk_42 (dk_at dksL_law_53 2 rfl rfl)
theorem dL_law_1405 : decode cL_law 1405 = .ok (.iload 4, 2) := dk_21 4 (dk_at dksL_law_53 3 rfl rfl)
theorem dL_law_1407 : decode cL_law 1407 = .ok (.iconst 2, 1) := dk_5 (dk_at dksL_law_53 5 rfl rfl)
theorem dL_law_1408 : decode cL_law 1408 = .ok (.iadd, 1) := dk_96 (dk_at dksL_law_53 6 rfl rfl)
theorem dL_law_1409 : decode cL_law 1409 = .ok (.iaload, 1) := dk_46 (dk_at dksL_law_53 7 rfl rfl)
theorem dL_law_1410 : decode cL_law 1410 = .ok (.aload_n 3, 1) := dk_45 (dk_at dksL_law_53 8 rfl rfl)
theorem dL_law_1411 : decode cL_law 1411 = .ok (.invokestatic 203, 3) := dk_184 0 203 (dk_at dksL_law_53 9 rfl rfl)
theorem dL_law_1414 : decode cL_law 1414 = .ok (.istore 5, 2) := dk_54 5 (dk_at dksL_law_53 12 rfl rfl)
theorem dL_law_1416 : decode cL_law 1416 = .ok (.aload_n 2, 1) := dk_44 (dk_at dksL_law_53 14 rfl rfl)
theorem dL_law_1417 : decode cL_law 1417 = .ok (.aload_n 0, 1) := dk_42 (dk_at dksL_law_53 15 rfl rfl)
theorem dL_law_1418 : decode cL_law 1418 = .ok (.iload 4, 2) := dk_21 4 (dk_at dksL_law_53 16 rfl rfl)
theorem dL_law_1420 : decode cL_law 1420 = .ok (.iconst 1, 1) := dk_4 (dk_at dksL_law_53 18 rfl rfl)
theorem dL_law_1421 : decode cL_law 1421 = .ok (.iadd, 1) := dk_96 (dk_at dksL_law_53 19 rfl rfl)
theorem dL_law_1422 : decode cL_law 1422 = .ok (.iaload, 1) := dk_46 (dk_at dksL_law_53 20 rfl rfl)
theorem dL_law_1423 : decode cL_law 1423 = .ok (.aload_n 0, 1) := dk_42 (dk_at dksL_law_53 21 rfl rfl)
theorem dL_law_1424 : decode cL_law 1424 = .ok (.iload 4, 2) := dk_21 4 (dk_at dksL_law_53 22 rfl rfl)
theorem dL_law_1426 : decode cL_law 1426 = .ok (.iconst 2, 1) := dk_5 (dk_at dksL_law_54 0 rfl rfl)
theorem dL_law_1427 : decode cL_law 1427 = .ok (.iadd, 1) := dk_96 (dk_at dksL_law_54 1 rfl rfl)
theorem dL_law_1428 : decode cL_law 1428 = .ok (.iaload, 1) := dk_46 (dk_at dksL_law_54 2 rfl rfl)
theorem dL_law_1429 : decode cL_law 1429 = .ok (.invokevirtual 205, 3) := dk_182 0 205 (dk_at dksL_law_54 3 rfl rfl)
theorem dL_law_1432 : decode cL_law 1432 = .ok (.istore 6, 2) := dk_54 6 (dk_at dksL_law_54 6 rfl rfl)
theorem dL_law_1434 : decode cL_law 1434 = .ok (.aload_n 2, 1) := dk_44 (dk_at dksL_law_54 8 rfl rfl)
theorem dL_law_1435 : decode cL_law 1435 = .ok (.invokevirtual 154, 3) := dk_182 0 154 (dk_at dksL_law_54 9 rfl rfl)
theorem dL_law_1438 : decode cL_law 1438 = .ok (.iload 5, 2) := dk_21 5 (dk_at dksL_law_54 12 rfl rfl)
theorem dL_law_1440 : decode cL_law 1440 = .ok (.if_icmp .eq 5, 3) := dk_159 0 5 (dk_at dksL_law_54 14 rfl rfl)
theorem dL_law_1443 : decode cL_law 1443 = .ok (.iconst 0, 1) := dk_3 (dk_at dksL_law_54 17 rfl rfl)
theorem dL_law_1444 : decode cL_law 1444 = .ok (.ireturn, 1) := dk_172 (dk_at dksL_law_54 18 rfl rfl)
theorem dL_law_1445 : decode cL_law 1445 = .ok (.iload 5, 2) := dk_21 5 (dk_at dksL_law_54 19 rfl rfl)
theorem dL_law_1447 : decode cL_law 1447 = .ok (.ifCond .ne 15, 3) := dk_154 0 15 (dk_at dksL_law_54 21 rfl rfl)
theorem dL_law_1450 : decode cL_law 1450 = .ok (.aload_n 3, 1) := dk_45 (dk_at dksL_law_55 0 rfl rfl)
theorem dL_law_1451 : decode cL_law 1451 = .ok (.iconst 0, 1) := dk_3 (dk_at dksL_law_55 1 rfl rfl)
theorem dL_law_1452 : decode cL_law 1452 = .ok (.laload, 1) := dk_47 (dk_at dksL_law_55 2 rfl rfl)
theorem dL_law_1453 : decode cL_law 1453 = .ok (.iload 6, 2) := dk_21 6 (dk_at dksL_law_55 3 rfl rfl)
theorem dL_law_1455 : decode cL_law 1455 = .ok (.i2l, 1) := dk_133 (dk_at dksL_law_55 5 rfl rfl)
theorem dL_law_1456 : decode cL_law 1456 = .ok (.lcmp, 1) := dk_148 (dk_at dksL_law_55 6 rfl rfl)
theorem dL_law_1457 : decode cL_law 1457 = .ok (.ifCond .eq 5, 3) := dk_153 0 5 (dk_at dksL_law_55 7 rfl rfl)
theorem dL_law_1460 : decode cL_law 1460 = .ok (.iconst 0, 1) := dk_3 (dk_at dksL_law_55 10 rfl rfl)
theorem dL_law_1461 : decode cL_law 1461 = .ok (.ireturn, 1) := dk_172 (dk_at dksL_law_55 11 rfl rfl)
theorem dL_law_1462 : decode cL_law 1462 = .ok (.goto 1193, 3) := dk_167 4 169 (dk_at dksL_law_55 12 rfl rfl)
theorem dL_law_1465 : decode cL_law 1465 = .ok (.aload_n 1, 1) := dk_43 (dk_at dksL_law_55 15 rfl rfl)
theorem dL_law_1466 : decode cL_law 1466 = .ok (.aload_n 0, 1) := dk_42 (dk_at dksL_law_55 16 rfl rfl)
theorem dL_law_1467 : decode cL_law 1467 = .ok (.iload 4, 2) := dk_21 4 (dk_at dksL_law_55 17 rfl rfl)
theorem dL_law_1469 : decode cL_law 1469 = .ok (.iconst 1, 1) := dk_4 (dk_at dksL_law_55 19 rfl rfl)
theorem dL_law_1470 : decode cL_law 1470 = .ok (.iadd, 1) := dk_96 (dk_at dksL_law_55 20 rfl rfl)
theorem dL_law_1471 : decode cL_law 1471 = .ok (.iaload, 1) := dk_46 (dk_at dksL_law_55 21 rfl rfl)
theorem dL_law_1472 : decode cL_law 1472 = .ok (.aload_n 0, 1) := dk_42 (dk_at dksL_law_55 22 rfl rfl)
theorem dL_law_1473 : decode cL_law 1473 = .ok (.iload 4, 2) := dk_21 4 (dk_at dksL_law_56 0 rfl rfl)
theorem dL_law_1475 : decode cL_law 1475 = .ok (.iconst 2, 1) := dk_5 (dk_at dksL_law_56 2 rfl rfl)
theorem dL_law_1476 : decode cL_law 1476 = .ok (.iadd, 1) := dk_96 (dk_at dksL_law_56 3 rfl rfl)
theorem dL_law_1477 : decode cL_law 1477 = .ok (.iaload, 1) := dk_46 (dk_at dksL_law_56 4 rfl rfl)
theorem dL_law_1478 : decode cL_law 1478 = .ok (.aload_n 3, 1) := dk_45 (dk_at dksL_law_56 5 rfl rfl)
theorem dL_law_1479 : decode cL_law 1479 = .ok (.invokestatic 206, 3) := dk_184 0 206 (dk_at dksL_law_56 6 rfl rfl)
theorem dL_law_1482 : decode cL_law 1482 = .ok (.istore 5, 2) := dk_54 5 (dk_at dksL_law_56 9 rfl rfl)
theorem dL_law_1484 : decode cL_law 1484 = .ok (.aload_n 2, 1) := dk_44 (dk_at dksL_law_56 11 rfl rfl)
theorem dL_law_1485 : decode cL_law 1485 = .ok (.aload_n 0, 1) := dk_42 (dk_at dksL_law_56 12 rfl rfl)
theorem dL_law_1486 : decode cL_law 1486 = .ok (.iload 4, 2) := dk_21 4 (dk_at dksL_law_56 13 rfl rfl)
theorem dL_law_1488 : decode cL_law 1488 = .ok (.iconst 1, 1) := dk_4 (dk_at dksL_law_56 15 rfl rfl)
theorem dL_law_1489 : decode cL_law 1489 = .ok (.iadd, 1) := dk_96 (dk_at dksL_law_56 16 rfl rfl)
theorem dL_law_1490 : decode cL_law 1490 = .ok (.iaload, 1) := dk_46 (dk_at dksL_law_56 17 rfl rfl)
theorem dL_law_1491 : decode cL_law 1491 = .ok (.aload_n 0, 1) := dk_42 (dk_at dksL_law_56 18 rfl rfl)
theorem dL_law_1492 : decode cL_law 1492 = .ok (.iload 4, 2) := dk_21 4 (dk_at dksL_law_56 19 rfl rfl)
theorem dL_law_1494 : decode cL_law 1494 = .ok (.iconst 2, 1) := dk_5 (dk_at dksL_law_56 21 rfl rfl)
theorem dL_law_1495 : decode cL_law 1495 = .ok (.iadd, 1) := dk_96 (dk_at dksL_law_56 22 rfl rfl)
theorem dL_law_1496 : decode cL_law 1496 = .ok (.iaload, 1) := dk_46 (dk_at dksL_law_56 23 rfl rfl)
theorem dL_law_1497 : decode cL_law 1497 = .ok (.invokevirtual 208, 3) := dk_182 0 208 (dk_at dksL_law_57 0 rfl rfl)
theorem dL_law_1500 : decode cL_law 1500 = .ok (.istore 6, 2) := dk_54 6 (dk_at dksL_law_57 3 rfl rfl)
theorem dL_law_1502 : decode cL_law 1502 = .ok (.aload_n 2, 1) := dk_44 (dk_at dksL_law_57 5 rfl rfl)
theorem dL_law_1503 : decode cL_law 1503 = .ok (.invokevirtual 154, 3) := dk_182 0 154 (dk_at dksL_law_57 6 rfl rfl)
theorem dL_law_1506 : decode cL_law 1506 = .ok (.iload 5, 2) := dk_21 5 (dk_at dksL_law_57 9 rfl rfl)
theorem dL_law_1508 : decode cL_law 1508 = .ok (.if_icmp .eq 5, 3) := dk_159 0 5 (dk_at dksL_law_57 11 rfl rfl)
theorem dL_law_1511 : decode cL_law 1511 = .ok (.iconst 0, 1) := dk_3 (dk_at dksL_law_57 14 rfl rfl)
theorem dL_law_1512 : decode cL_law 1512 = .ok (.ireturn, 1) := dk_172 (dk_at dksL_law_57 15 rfl rfl)
theorem dL_law_1513 : decode cL_law 1513 = .ok (.iload 5, 2) := dk_21 5 (dk_at dksL_law_57 16 rfl rfl)
theorem dL_law_1515 : decode cL_law 1515 = .ok (.ifCond .ne 15, 3) := dk_154 0 15 (dk_at dksL_law_57 18 rfl rfl)
theorem dL_law_1518 : decode cL_law 1518 = .ok (.aload_n 3, 1) := dk_45 (dk_at dksL_law_57 21 rfl rfl)
theorem dL_law_1519 : decode cL_law 1519 = .ok (.iconst 0, 1) := dk_3 (dk_at dksL_law_57 22 rfl rfl)
theorem dL_law_1520 : decode cL_law 1520 = .ok (.laload, 1) := dk_47 (dk_at dksL_law_57 23 rfl rfl)
theorem dL_law_1521 : decode cL_law 1521 = .ok (.iload 6, 2) := dk_21 6 (dk_at dksL_law_58 0 rfl rfl)
theorem dL_law_1523 : decode cL_law 1523 = .ok (.i2l, 1) := dk_133 (dk_at dksL_law_58 2 rfl rfl)
theorem dL_law_1524 : decode cL_law 1524 = .ok (.lcmp, 1) := dk_148 (dk_at dksL_law_58 3 rfl rfl)
theorem dL_law_1525 : decode cL_law 1525 = .ok (.ifCond .eq 5, 3) := dk_153 0 5 (dk_at dksL_law_58 4 rfl rfl)
theorem dL_law_1528 : decode cL_law 1528 = .ok (.iconst 0, 1) := dk_3 (dk_at dksL_law_58 7 rfl rfl)
theorem dL_law_1529 : decode cL_law 1529 = .ok (.ireturn, 1) := dk_172 (dk_at dksL_law_58 8 rfl rfl)
theorem dL_law_1530 : decode cL_law 1530 = .ok (.goto 1125, 3) := dk_167 4 101 (dk_at dksL_law_58 9 rfl rfl)
theorem dL_law_1533 : decode cL_law 1533 = .ok (.aload_n 1, 1) := dk_43 (dk_at dksL_law_58 12 rfl rfl)
theorem dL_law_1534 : decode cL_law 1534 = .ok (.aload_n 0, 1) := dk_42 (dk_at dksL_law_58 13 rfl rfl)
theorem dL_law_1535 : decode cL_law 1535 = .ok (.iload 4, 2) := dk_21 4 (dk_at dksL_law_58 14 rfl rfl)
theorem dL_law_1537 : decode cL_law 1537 = .ok (.iconst 1, 1) := dk_4 (dk_at dksL_law_58 16 rfl rfl)
theorem dL_law_1538 : decode cL_law 1538 = .ok (.iadd, 1) := dk_96 (dk_at dksL_law_58 17 rfl rfl)
theorem dL_law_1539 : decode cL_law 1539 = .ok (.iaload, 1) := dk_46 (dk_at dksL_law_58 18 rfl rfl)
theorem dL_law_1540 : decode cL_law 1540 = .ok (.aload_n 0, 1) := dk_42 (dk_at dksL_law_58 19 rfl rfl)
theorem dL_law_1541 : decode cL_law 1541 = .ok (.iload 4, 2) := dk_21 4 (dk_at dksL_law_58 20 rfl rfl)
theorem dL_law_1543 : decode cL_law 1543 = .ok (.iconst 2, 1) := dk_5 (dk_at dksL_law_58 22 rfl rfl)
theorem dL_law_1544 : decode cL_law 1544 = .ok (.iadd, 1) := dk_96 (dk_at dksL_law_58 23 rfl rfl)
theorem dL_law_1545 : decode cL_law 1545 = .ok (.iaload, 1) := dk_46 (dk_at dksL_law_59 0 rfl rfl)
theorem dL_law_1546 : decode cL_law 1546 = .ok (.aload_n 3, 1) := dk_45 (dk_at dksL_law_59 1 rfl rfl)
theorem dL_law_1547 : decode cL_law 1547 = .ok (.invokestatic 209, 3) := dk_184 0 209 (dk_at dksL_law_59 2 rfl rfl)
theorem dL_law_1550 : decode cL_law 1550 = .ok (.istore 5, 2) := dk_54 5 (dk_at dksL_law_59 5 rfl rfl)
theorem dL_law_1552 : decode cL_law 1552 = .ok (.aload_n 2, 1) := dk_44 (dk_at dksL_law_59 7 rfl rfl)
theorem dL_law_1553 : decode cL_law 1553 = .ok (.aload_n 0, 1) := dk_42 (dk_at dksL_law_59 8 rfl rfl)
theorem dL_law_1554 : decode cL_law 1554 = .ok (.iload 4, 2) := dk_21 4 (dk_at dksL_law_59 9 rfl rfl)
theorem dL_law_1556 : decode cL_law 1556 = .ok (.iconst 1, 1) := dk_4 (dk_at dksL_law_59 11 rfl rfl)
theorem dL_law_1557 : decode cL_law 1557 = .ok (.iadd, 1) := dk_96 (dk_at dksL_law_59 12 rfl rfl)
theorem dL_law_1558 : decode cL_law 1558 = .ok (.iaload, 1) := dk_46 (dk_at dksL_law_59 13 rfl rfl)
theorem dL_law_1559 : decode cL_law 1559 = .ok (.aload_n 0, 1) := dk_42 (dk_at dksL_law_59 14 rfl rfl)
theorem dL_law_1560 : decode cL_law 1560 = .ok (.iload 4, 2) := dk_21 4 (dk_at dksL_law_59 15 rfl rfl)
theorem dL_law_1562 : decode cL_law 1562 = .ok (.iconst 2, 1) := dk_5 (dk_at dksL_law_59 17 rfl rfl)
theorem dL_law_1563 : decode cL_law 1563 = .ok (.iadd, 1) := dk_96 (dk_at dksL_law_59 18 rfl rfl)
theorem dL_law_1564 : decode cL_law 1564 = .ok (.iaload, 1) := dk_46 (dk_at dksL_law_59 19 rfl rfl)
theorem dL_law_1565 : decode cL_law 1565 = .ok (.invokevirtual 211, 3) := dk_182 0 211 (dk_at dksL_law_59 20 rfl rfl)
theorem dL_law_1568 : decode cL_law 1568 = .ok (.istore 6, 2) := dk_54 6 (dk_at dksL_law_60 0 rfl rfl)
theorem dL_law_1570 : decode cL_law 1570 = .ok (.aload_n 2, 1) := dk_44 (dk_at dksL_law_60 2 rfl rfl)
theorem dL_law_1571 : decode cL_law 1571 = .ok (.invokevirtual 154, 3) := dk_182 0 154 (dk_at dksL_law_60 3 rfl rfl)
theorem dL_law_1574 : decode cL_law 1574 = .ok (.iload 5, 2) := dk_21 5 (dk_at dksL_law_60 6 rfl rfl)
theorem dL_law_1576 : decode cL_law 1576 = .ok (.if_icmp .eq 5, 3) := dk_159 0 5 (dk_at dksL_law_60 8 rfl rfl)
theorem dL_law_1579 : decode cL_law 1579 = .ok (.iconst 0, 1) := dk_3 (dk_at dksL_law_60 11 rfl rfl)
theorem dL_law_1580 : decode cL_law 1580 = .ok (.ireturn, 1) := dk_172 (dk_at dksL_law_60 12 rfl rfl)
theorem dL_law_1581 : decode cL_law 1581 = .ok (.iload 5, 2) := dk_21 5 (dk_at dksL_law_60 13 rfl rfl)
theorem dL_law_1583 : decode cL_law 1583 = .ok (.ifCond .ne 15, 3) := dk_154 0 15 (dk_at dksL_law_60 15 rfl rfl)
theorem dL_law_1586 : decode cL_law 1586 = .ok (.aload_n 3, 1) := dk_45 (dk_at dksL_law_60 18 rfl rfl)
theorem dL_law_1587 : decode cL_law 1587 = .ok (.iconst 0, 1) := dk_3 (dk_at dksL_law_60 19 rfl rfl)
theorem dL_law_1588 : decode cL_law 1588 = .ok (.laload, 1) := dk_47 (dk_at dksL_law_60 20 rfl rfl)
theorem dL_law_1589 : decode cL_law 1589 = .ok (.iload 6, 2) := dk_21 6 (dk_at dksL_law_60 21 rfl rfl)
theorem dL_law_1591 : decode cL_law 1591 = .ok (.i2l, 1) := dk_133 (dk_at dksL_law_60 23 rfl rfl)
theorem dL_law_1592 : decode cL_law 1592 = .ok (.lcmp, 1) := dk_148 (dk_at dksL_law_61 0 rfl rfl)
theorem dL_law_1593 : decode cL_law 1593 = .ok (.ifCond .eq 5, 3) := dk_153 0 5 (dk_at dksL_law_61 1 rfl rfl)
theorem dL_law_1596 : decode cL_law 1596 = .ok (.iconst 0, 1) := dk_3 (dk_at dksL_law_61 4 rfl rfl)
theorem dL_law_1597 : decode cL_law 1597 = .ok (.ireturn, 1) := dk_172 (dk_at dksL_law_61 5 rfl rfl)
theorem dL_law_1598 : decode cL_law 1598 = .ok (.goto 1057, 3) := dk_167 4 33 (dk_at dksL_law_61 6 rfl rfl)
theorem dL_law_1601 : decode cL_law 1601 = .ok (.aload_n 1, 1) := dk_43 (dk_at dksL_law_61 9 rfl rfl)
theorem dL_law_1602 : decode cL_law 1602 = .ok (.aload_n 0, 1) := dk_42 (dk_at dksL_law_61 10 rfl rfl)
theorem dL_law_1603 : decode cL_law 1603 = .ok (.iload 4, 2) := dk_21 4 (dk_at dksL_law_61 11 rfl rfl)
theorem dL_law_1605 : decode cL_law 1605 = .ok (.iconst 1, 1) := dk_4 (dk_at dksL_law_61 13 rfl rfl)
theorem dL_law_1606 : decode cL_law 1606 = .ok (.iadd, 1) := dk_96 (dk_at dksL_law_61 14 rfl rfl)
theorem dL_law_1607 : decode cL_law 1607 = .ok (.iaload, 1) := dk_46 (dk_at dksL_law_61 15 rfl rfl)
theorem dL_law_1608 : decode cL_law 1608 = .ok (.aload_n 0, 1) := dk_42 (dk_at dksL_law_61 16 rfl rfl)
theorem dL_law_1609 : decode cL_law 1609 = .ok (.iload 4, 2) := dk_21 4 (dk_at dksL_law_61 17 rfl rfl)
theorem dL_law_1611 : decode cL_law 1611 = .ok (.iconst 2, 1) := dk_5 (dk_at dksL_law_61 19 rfl rfl)
theorem dL_law_1612 : decode cL_law 1612 = .ok (.iadd, 1) := dk_96 (dk_at dksL_law_61 20 rfl rfl)
theorem dL_law_1613 : decode cL_law 1613 = .ok (.iaload, 1) := dk_46 (dk_at dksL_law_61 21 rfl rfl)
theorem dL_law_1614 : decode cL_law 1614 = .ok (.aload_n 0, 1) := dk_42 (dk_at dksL_law_61 22 rfl rfl)
theorem dL_law_1615 : decode cL_law 1615 = .ok (.iload 4, 2) := dk_21 4 (dk_at dksL_law_62 0 rfl rfl)
theorem dL_law_1617 : decode cL_law 1617 = .ok (.iconst 3, 1) := dk_6 (dk_at dksL_law_62 2 rfl rfl)
theorem dL_law_1618 : decode cL_law 1618 = .ok (.iadd, 1) := dk_96 (dk_at dksL_law_62 3 rfl rfl)
theorem dL_law_1619 : decode cL_law 1619 = .ok (.iaload, 1) := dk_46 (dk_at dksL_law_62 4 rfl rfl)
theorem dL_law_1620 : decode cL_law 1620 = .ok (.aload_n 0, 1) := dk_42 (dk_at dksL_law_62 5 rfl rfl)
theorem dL_law_1621 : decode cL_law 1621 = .ok (.iload 4, 2) := dk_21 4 (dk_at dksL_law_62 6 rfl rfl)
theorem dL_law_1623 : decode cL_law 1623 = .ok (.iconst 4, 1) := dk_7 (dk_at dksL_law_62 8 rfl rfl)
theorem dL_law_1624 : decode cL_law 1624 = .ok (.iadd, 1) := dk_96 (dk_at dksL_law_62 9 rfl rfl)
theorem dL_law_1625 : decode cL_law 1625 = .ok (.iaload, 1) := dk_46 (dk_at dksL_law_62 10 rfl rfl)
theorem dL_law_1626 : decode cL_law 1626 = .ok (.aload_n 3, 1) := dk_45 (dk_at dksL_law_62 11 rfl rfl)
theorem dL_law_1627 : decode cL_law 1627 = .ok (.invokestatic 212, 3) := dk_184 0 212 (dk_at dksL_law_62 12 rfl rfl)
theorem dL_law_1630 : decode cL_law 1630 = .ok (.istore 5, 2) := dk_54 5 (dk_at dksL_law_62 15 rfl rfl)
theorem dL_law_1632 : decode cL_law 1632 = .ok (.aload_n 2, 1) := dk_44 (dk_at dksL_law_62 17 rfl rfl)
theorem dL_law_1633 : decode cL_law 1633 = .ok (.aload_n 0, 1) := dk_42 (dk_at dksL_law_62 18 rfl rfl)
theorem dL_law_1634 : decode cL_law 1634 = .ok (.iload 4, 2) := dk_21 4 (dk_at dksL_law_62 19 rfl rfl)
theorem dL_law_1636 : decode cL_law 1636 = .ok (.iconst 1, 1) := dk_4 (dk_at dksL_law_62 21 rfl rfl)
theorem dL_law_1637 : decode cL_law 1637 = .ok (.iadd, 1) := dk_96 (dk_at dksL_law_62 22 rfl rfl)
theorem dL_law_1638 : decode cL_law 1638 = .ok (.iaload, 1) := dk_46 (dk_at dksL_law_62 23 rfl rfl)
theorem dL_law_1639 : decode cL_law 1639 = .ok (.aload_n 0, 1) := dk_42 (dk_at dksL_law_63 0 rfl rfl)
theorem dL_law_1640 : decode cL_law 1640 = .ok (.iload 4, 2) := dk_21 4 (dk_at dksL_law_63 1 rfl rfl)
theorem dL_law_1642 : decode cL_law 1642 = .ok (.iconst 2, 1) := dk_5 (dk_at dksL_law_63 3 rfl rfl)
theorem dL_law_1643 : decode cL_law 1643 = .ok (.iadd, 1) := dk_96 (dk_at dksL_law_63 4 rfl rfl)
theorem dL_law_1644 : decode cL_law 1644 = .ok (.iaload, 1) := dk_46 (dk_at dksL_law_63 5 rfl rfl)
theorem dL_law_1645 : decode cL_law 1645 = .ok (.aload_n 0, 1) := dk_42 (dk_at dksL_law_63 6 rfl rfl)
theorem dL_law_1646 : decode cL_law 1646 = .ok (.iload 4, 2) := dk_21 4 (dk_at dksL_law_63 7 rfl rfl)
theorem dL_law_1648 : decode cL_law 1648 = .ok (.iconst 3, 1) := dk_6 (dk_at dksL_law_63 9 rfl rfl)
theorem dL_law_1649 : decode cL_law 1649 = .ok (.iadd, 1) := dk_96 (dk_at dksL_law_63 10 rfl rfl)
theorem dL_law_1650 : decode cL_law 1650 = .ok (.iaload, 1) := dk_46 (dk_at dksL_law_63 11 rfl rfl)
theorem dL_law_1651 : decode cL_law 1651 = .ok (.aload_n 0, 1) := dk_42 (dk_at dksL_law_63 12 rfl rfl)
theorem dL_law_1652 : decode cL_law 1652 = .ok (.iload 4, 2) := dk_21 4 (dk_at dksL_law_63 13 rfl rfl)
theorem dL_law_1654 : decode cL_law 1654 = .ok (.iconst 4, 1) := dk_7 (dk_at dksL_law_63 15 rfl rfl)
theorem dL_law_1655 : decode cL_law 1655 = .ok (.iadd, 1) := dk_96 (dk_at dksL_law_63 16 rfl rfl)
theorem dL_law_1656 : decode cL_law 1656 = .ok (.iaload, 1) := dk_46 (dk_at dksL_law_63 17 rfl rfl)
theorem dL_law_1657 : decode cL_law 1657 = .ok (.invokevirtual 214, 3) := dk_182 0 214 (dk_at dksL_law_63 18 rfl rfl)
theorem dL_law_1660 : decode cL_law 1660 = .ok (.istore 6, 2) := dk_54 6 (dk_at dksL_law_63 21 rfl rfl)
theorem dL_law_1662 : decode cL_law 1662 = .ok (.aload_n 2, 1) := dk_44 (dk_at dksL_law_63 23 rfl rfl)
theorem dL_law_1663 : decode cL_law 1663 = .ok (.invokevirtual 154, 3) := dk_182 0 154 (dk_at dksL_law_64 0 rfl rfl)
theorem dL_law_1666 : decode cL_law 1666 = .ok (.iload 5, 2) := dk_21 5 (dk_at dksL_law_64 3 rfl rfl)
theorem dL_law_1668 : decode cL_law 1668 = .ok (.if_icmp .eq 5, 3) := dk_159 0 5 (dk_at dksL_law_64 5 rfl rfl)
theorem dL_law_1671 : decode cL_law 1671 = .ok (.iconst 0, 1) := dk_3 (dk_at dksL_law_64 8 rfl rfl)
theorem dL_law_1672 : decode cL_law 1672 = .ok (.ireturn, 1) := dk_172 (dk_at dksL_law_64 9 rfl rfl)
theorem dL_law_1673 : decode cL_law 1673 = .ok (.iload 5, 2) := dk_21 5 (dk_at dksL_law_64 10 rfl rfl)
theorem dL_law_1675 : decode cL_law 1675 = .ok (.ifCond .ne 15, 3) := dk_154 0 15 (dk_at dksL_law_64 12 rfl rfl)
theorem dL_law_1678 : decode cL_law 1678 = .ok (.aload_n 3, 1) := dk_45 (dk_at dksL_law_64 15 rfl rfl)
theorem dL_law_1679 : decode cL_law 1679 = .ok (.iconst 0, 1) := dk_3 (dk_at dksL_law_64 16 rfl rfl)
theorem dL_law_1680 : decode cL_law 1680 = .ok (.laload, 1) := dk_47 (dk_at dksL_law_64 17 rfl rfl)
theorem dL_law_1681 : decode cL_law 1681 = .ok (.iload 6, 2) := dk_21 6 (dk_at dksL_law_64 18 rfl rfl)
theorem dL_law_1683 : decode cL_law 1683 = .ok (.i2l, 1) := dk_133 (dk_at dksL_law_64 20 rfl rfl)
theorem dL_law_1684 : decode cL_law 1684 = .ok (.lcmp, 1) := dk_148 (dk_at dksL_law_64 21 rfl rfl)
theorem dL_law_1685 : decode cL_law 1685 = .ok (.ifCond .eq 5, 3) := dk_153 0 5 (dk_at dksL_law_65 0 rfl rfl)
theorem dL_law_1688 : decode cL_law 1688 = .ok (.iconst 0, 1) := dk_3 (dk_at dksL_law_65 3 rfl rfl)
theorem dL_law_1689 : decode cL_law 1689 = .ok (.ireturn, 1) := dk_172 (dk_at dksL_law_65 4 rfl rfl)
theorem dL_law_1690 : decode cL_law 1690 = .ok (.goto 965, 3) := dk_167 3 197 (dk_at dksL_law_65 5 rfl rfl)
theorem dL_law_1693 : decode cL_law 1693 = .ok (.aload_n 1, 1) := dk_43 (dk_at dksL_law_65 8 rfl rfl)
theorem dL_law_1694 : decode cL_law 1694 = .ok (.aload_n 0, 1) := dk_42 (dk_at dksL_law_65 9 rfl rfl)
theorem dL_law_1695 : decode cL_law 1695 = .ok (.iload 4, 2) := dk_21 4 (dk_at dksL_law_65 10 rfl rfl)
theorem dL_law_1697 : decode cL_law 1697 = .ok (.iconst 1, 1) := dk_4 (dk_at dksL_law_65 12 rfl rfl)
theorem dL_law_1698 : decode cL_law 1698 = .ok (.iadd, 1) := dk_96 (dk_at dksL_law_65 13 rfl rfl)
theorem dL_law_1699 : decode cL_law 1699 = .ok (.iaload, 1) := dk_46 (dk_at dksL_law_65 14 rfl rfl)
theorem dL_law_1700 : decode cL_law 1700 = .ok (.aload_n 3, 1) := dk_45 (dk_at dksL_law_65 15 rfl rfl)
theorem dL_law_1701 : decode cL_law 1701 = .ok (.invokestatic 215, 3) := dk_184 0 215 (dk_at dksL_law_65 16 rfl rfl)
theorem dL_law_1704 : decode cL_law 1704 = .ok (.istore 5, 2) := dk_54 5 (dk_at dksL_law_65 19 rfl rfl)
theorem dL_law_1706 : decode cL_law 1706 = .ok (.aload_n 2, 1) := dk_44 (dk_at dksL_law_65 21 rfl rfl)
theorem dL_law_1707 : decode cL_law 1707 = .ok (.aload_n 0, 1) := dk_42 (dk_at dksL_law_65 22 rfl rfl)
theorem dL_law_1708 : decode cL_law 1708 = .ok (.iload 4, 2) := dk_21 4 (dk_at dksL_law_66 0 rfl rfl)
theorem dL_law_1710 : decode cL_law 1710 = .ok (.iconst 1, 1) := dk_4 (dk_at dksL_law_66 2 rfl rfl)
theorem dL_law_1711 : decode cL_law 1711 = .ok (.iadd, 1) := dk_96 (dk_at dksL_law_66 3 rfl rfl)
theorem dL_law_1712 : decode cL_law 1712 = .ok (.iaload, 1) := dk_46 (dk_at dksL_law_66 4 rfl rfl)
theorem dL_law_1713 : decode cL_law 1713 = .ok (.invokevirtual 217, 3) := dk_182 0 217 (dk_at dksL_law_66 5 rfl rfl)
theorem dL_law_1716 : decode cL_law 1716 = .ok (.istore 6, 2) := dk_54 6 (dk_at dksL_law_66 8 rfl rfl)
theorem dL_law_1718 : decode cL_law 1718 = .ok (.aload_n 2, 1) := dk_44 (dk_at dksL_law_66 10 rfl rfl)
theorem dL_law_1719 : decode cL_law 1719 = .ok (.invokevirtual 154, 3) := dk_182 0 154 (dk_at dksL_law_66 11 rfl rfl)
theorem dL_law_1722 : decode cL_law 1722 = .ok (.iload 5, 2) := dk_21 5 (dk_at dksL_law_66 14 rfl rfl)
theorem dL_law_1724 : decode cL_law 1724 = .ok (.if_icmp .eq 5, 3) := dk_159 0 5 (dk_at dksL_law_66 16 rfl rfl)
theorem dL_law_1727 : decode cL_law 1727 = .ok (.iconst 0, 1) := dk_3 (dk_at dksL_law_66 19 rfl rfl)
theorem dL_law_1728 : decode cL_law 1728 = .ok (.ireturn, 1) := dk_172 (dk_at dksL_law_66 20 rfl rfl)
theorem dL_law_1729 : decode cL_law 1729 = .ok (.iload 5, 2) := dk_21 5 (dk_at dksL_law_66 21 rfl rfl)
theorem dL_law_1731 : decode cL_law 1731 = .ok (.ifCond .ne 15, 3) := dk_154 0 15 (dk_at dksL_law_67 0 rfl rfl)
theorem dL_law_1734 : decode cL_law 1734 = .ok (.aload_n 3, 1) := dk_45 (dk_at dksL_law_67 3 rfl rfl)
theorem dL_law_1735 : decode cL_law 1735 = .ok (.iconst 0, 1) := dk_3 (dk_at dksL_law_67 4 rfl rfl)
theorem dL_law_1736 : decode cL_law 1736 = .ok (.laload, 1) := dk_47 (dk_at dksL_law_67 5 rfl rfl)
theorem dL_law_1737 : decode cL_law 1737 = .ok (.iload 6, 2) := dk_21 6 (dk_at dksL_law_67 6 rfl rfl)
theorem dL_law_1739 : decode cL_law 1739 = .ok (.i2l, 1) := dk_133 (dk_at dksL_law_67 8 rfl rfl)
theorem dL_law_1740 : decode cL_law 1740 = .ok (.lcmp, 1) := dk_148 (dk_at dksL_law_67 9 rfl rfl)
theorem dL_law_1741 : decode cL_law 1741 = .ok (.ifCond .eq 5, 3) := dk_153 0 5 (dk_at dksL_law_67 10 rfl rfl)
theorem dL_law_1744 : decode cL_law 1744 = .ok (.iconst 0, 1) := dk_3 (dk_at dksL_law_67 13 rfl rfl)
theorem dL_law_1745 : decode cL_law 1745 = .ok (.ireturn, 1) := dk_172 (dk_at dksL_law_67 14 rfl rfl)
theorem dL_law_1746 : decode cL_law 1746 = .ok (.goto 909, 3) := dk_167 3 141 (dk_at dksL_law_67 15 rfl rfl)
theorem dL_law_1749 : decode cL_law 1749 = .ok (.aload_n 1, 1) := dk_43 (dk_at dksL_law_67 18 rfl rfl)
theorem dL_law_1750 : decode cL_law 1750 = .ok (.invokevirtual 218, 3) := dk_182 0 218 (dk_at dksL_law_67 19 rfl rfl)
theorem dL_law_1753 : decode cL_law 1753 = .ok (.aload_n 2, 1) := dk_44 (dk_at dksL_law_67 22 rfl rfl)
theorem dL_law_1754 : decode cL_law 1754 = .ok (.invokevirtual 221, 3) := dk_182 0 221 (dk_at dksL_law_68 0 rfl rfl)
theorem dL_law_1757 : decode cL_law 1757 = .ok (.if_icmp .eq 898, 3) := dk_159 3 130 (dk_at dksL_law_68 3 rfl rfl)
theorem dL_law_1760 : decode cL_law 1760 = .ok (.iconst 0, 1) := dk_3 (dk_at dksL_law_68 6 rfl rfl)
theorem dL_law_1761 : decode cL_law 1761 = .ok (.ireturn, 1) := dk_172 (dk_at dksL_law_68 7 rfl rfl)
theorem dL_law_1762 : decode cL_law 1762 = .ok (.aload_n 1, 1) := dk_43 (dk_at dksL_law_68 8 rfl rfl)
theorem dL_law_1763 : decode cL_law 1763 = .ok (.aload_n 0, 1) := dk_42 (dk_at dksL_law_68 9 rfl rfl)
theorem dL_law_1764 : decode cL_law 1764 = .ok (.iload 4, 2) := dk_21 4 (dk_at dksL_law_68 10 rfl rfl)
theorem dL_law_1766 : decode cL_law 1766 = .ok (.iconst 1, 1) := dk_4 (dk_at dksL_law_68 12 rfl rfl)
theorem dL_law_1767 : decode cL_law 1767 = .ok (.iadd, 1) := dk_96 (dk_at dksL_law_68 13 rfl rfl)
theorem dL_law_1768 : decode cL_law 1768 = .ok (.iaload, 1) := dk_46 (dk_at dksL_law_68 14 rfl rfl)
theorem dL_law_1769 : decode cL_law 1769 = .ok (.aload_n 0, 1) := dk_42 (dk_at dksL_law_68 15 rfl rfl)
theorem dL_law_1770 : decode cL_law 1770 = .ok (.iload 4, 2) := dk_21 4 (dk_at dksL_law_68 16 rfl rfl)
theorem dL_law_1772 : decode cL_law 1772 = .ok (.iconst 2, 1) := dk_5 (dk_at dksL_law_68 18 rfl rfl)
theorem dL_law_1773 : decode cL_law 1773 = .ok (.iadd, 1) := dk_96 (dk_at dksL_law_68 19 rfl rfl)
theorem dL_law_1774 : decode cL_law 1774 = .ok (.iaload, 1) := dk_46 (dk_at dksL_law_68 20 rfl rfl)
theorem dL_law_1775 : decode cL_law 1775 = .ok (.aload_n 3, 1) := dk_45 (dk_at dksL_law_68 21 rfl rfl)
theorem dL_law_1776 : decode cL_law 1776 = .ok (.invokestatic 222, 3) := dk_184 0 222 (dk_at dksL_law_69 0 rfl rfl)
theorem dL_law_1779 : decode cL_law 1779 = .ok (.istore 5, 2) := dk_54 5 (dk_at dksL_law_69 3 rfl rfl)
theorem dL_law_1781 : decode cL_law 1781 = .ok (.aload_n 2, 1) := dk_44 (dk_at dksL_law_69 5 rfl rfl)
theorem dL_law_1782 : decode cL_law 1782 = .ok (.aload_n 0, 1) := dk_42 (dk_at dksL_law_69 6 rfl rfl)
theorem dL_law_1783 : decode cL_law 1783 = .ok (.iload 4, 2) := dk_21 4 (dk_at dksL_law_69 7 rfl rfl)
theorem dL_law_1785 : decode cL_law 1785 = .ok (.iconst 1, 1) := dk_4 (dk_at dksL_law_69 9 rfl rfl)
theorem dL_law_1786 : decode cL_law 1786 = .ok (.iadd, 1) := dk_96 (dk_at dksL_law_69 10 rfl rfl)
theorem dL_law_1787 : decode cL_law 1787 = .ok (.iaload, 1) := dk_46 (dk_at dksL_law_69 11 rfl rfl)
theorem dL_law_1788 : decode cL_law 1788 = .ok (.aload_n 0, 1) := dk_42 (dk_at dksL_law_69 12 rfl rfl)
theorem dL_law_1789 : decode cL_law 1789 = .ok (.iload 4, 2) := dk_21 4 (dk_at dksL_law_69 13 rfl rfl)
theorem dL_law_1791 : decode cL_law 1791 = .ok (.iconst 2, 1) := dk_5 (dk_at dksL_law_69 15 rfl rfl)
theorem dL_law_1792 : decode cL_law 1792 = .ok (.iadd, 1) := dk_96 (dk_at dksL_law_69 16 rfl rfl)
theorem dL_law_1793 : decode cL_law 1793 = .ok (.iaload, 1) := dk_46 (dk_at dksL_law_69 17 rfl rfl)
theorem dL_law_1794 : decode cL_law 1794 = .ok (.invokevirtual 224, 3) := dk_182 0 224 (dk_at dksL_law_69 18 rfl rfl)
theorem dL_law_1797 : decode cL_law 1797 = .ok (.istore 6, 2) := dk_54 6 (dk_at dksL_law_69 21 rfl rfl)
theorem dL_law_1799 : decode cL_law 1799 = .ok (.aload_n 2, 1) := dk_44 (dk_at dksL_law_69 23 rfl rfl)
theorem dL_law_1800 : decode cL_law 1800 = .ok (.invokevirtual 154, 3) := dk_182 0 154 (dk_at dksL_law_70 0 rfl rfl)
theorem dL_law_1803 : decode cL_law 1803 = .ok (.iload 5, 2) := dk_21 5 (dk_at dksL_law_70 3 rfl rfl)
theorem dL_law_1805 : decode cL_law 1805 = .ok (.if_icmp .eq 5, 3) := dk_159 0 5 (dk_at dksL_law_70 5 rfl rfl)
theorem dL_law_1808 : decode cL_law 1808 = .ok (.iconst 0, 1) := dk_3 (dk_at dksL_law_70 8 rfl rfl)
theorem dL_law_1809 : decode cL_law 1809 = .ok (.ireturn, 1) := dk_172 (dk_at dksL_law_70 9 rfl rfl)
theorem dL_law_1810 : decode cL_law 1810 = .ok (.iload 5, 2) := dk_21 5 (dk_at dksL_law_70 10 rfl rfl)
theorem dL_law_1812 : decode cL_law 1812 = .ok (.ifCond .ne 15, 3) := dk_154 0 15 (dk_at dksL_law_70 12 rfl rfl)
theorem dL_law_1815 : decode cL_law 1815 = .ok (.aload_n 3, 1) := dk_45 (dk_at dksL_law_70 15 rfl rfl)
theorem dL_law_1816 : decode cL_law 1816 = .ok (.iconst 0, 1) := dk_3 (dk_at dksL_law_70 16 rfl rfl)
theorem dL_law_1817 : decode cL_law 1817 = .ok (.laload, 1) := dk_47 (dk_at dksL_law_70 17 rfl rfl)
theorem dL_law_1818 : decode cL_law 1818 = .ok (.iload 6, 2) := dk_21 6 (dk_at dksL_law_70 18 rfl rfl)
theorem dL_law_1820 : decode cL_law 1820 = .ok (.i2l, 1) := dk_133 (dk_at dksL_law_70 20 rfl rfl)
theorem dL_law_1821 : decode cL_law 1821 = .ok (.lcmp, 1) := dk_148 (dk_at dksL_law_70 21 rfl rfl)
theorem dL_law_1822 : decode cL_law 1822 = .ok (.ifCond .eq 5, 3) := dk_153 0 5 (dk_at dksL_law_71 0 rfl rfl)
theorem dL_law_1825 : decode cL_law 1825 = .ok (.iconst 0, 1) := dk_3 (dk_at dksL_law_71 3 rfl rfl)
theorem dL_law_1826 : decode cL_law 1826 = .ok (.ireturn, 1) := dk_172 (dk_at dksL_law_71 4 rfl rfl)
theorem dL_law_1827 : decode cL_law 1827 = .ok (.goto 828, 3) := dk_167 3 60 (dk_at dksL_law_71 5 rfl rfl)
theorem dL_law_1830 : decode cL_law 1830 = .ok (.aload_n 1, 1) := dk_43 (dk_at dksL_law_71 8 rfl rfl)
theorem dL_law_1831 : decode cL_law 1831 = .ok (.aload_n 0, 1) := dk_42 (dk_at dksL_law_71 9 rfl rfl)
theorem dL_law_1832 : decode cL_law 1832 = .ok (.iload 4, 2) := dk_21 4 (dk_at dksL_law_71 10 rfl rfl)
theorem dL_law_1834 : decode cL_law 1834 = .ok (.iconst 1, 1) := dk_4 (dk_at dksL_law_71 12 rfl rfl)
theorem dL_law_1835 : decode cL_law 1835 = .ok (.iadd, 1) := dk_96 (dk_at dksL_law_71 13 rfl rfl)
theorem dL_law_1836 : decode cL_law 1836 = .ok (.iaload, 1) := dk_46 (dk_at dksL_law_71 14 rfl rfl)
theorem dL_law_1837 : decode cL_law 1837 = .ok (.aload_n 3, 1) := dk_45 (dk_at dksL_law_71 15 rfl rfl)
theorem dL_law_1838 : decode cL_law 1838 = .ok (.invokestatic 225, 3) := dk_184 0 225 (dk_at dksL_law_71 16 rfl rfl)
theorem dL_law_1841 : decode cL_law 1841 = .ok (.istore 5, 2) := dk_54 5 (dk_at dksL_law_71 19 rfl rfl)
theorem dL_law_1843 : decode cL_law 1843 = .ok (.aload_n 2, 1) := dk_44 (dk_at dksL_law_71 21 rfl rfl)
theorem dL_law_1844 : decode cL_law 1844 = .ok (.aload_n 0, 1) := dk_42 (dk_at dksL_law_71 22 rfl rfl)
theorem dL_law_1845 : decode cL_law 1845 = .ok (.iload 4, 2) := dk_21 4 (dk_at dksL_law_72 0 rfl rfl)
theorem dL_law_1847 : decode cL_law 1847 = .ok (.iconst 1, 1) := dk_4 (dk_at dksL_law_72 2 rfl rfl)
theorem dL_law_1848 : decode cL_law 1848 = .ok (.iadd, 1) := dk_96 (dk_at dksL_law_72 3 rfl rfl)
theorem dL_law_1849 : decode cL_law 1849 = .ok (.iaload, 1) := dk_46 (dk_at dksL_law_72 4 rfl rfl)
theorem dL_law_1850 : decode cL_law 1850 = .ok (.invokevirtual 227, 3) := dk_182 0 227 (dk_at dksL_law_72 5 rfl rfl)
theorem dL_law_1853 : decode cL_law 1853 = .ok (.istore 6, 2) := dk_54 6 (dk_at dksL_law_72 8 rfl rfl)
theorem dL_law_1855 : decode cL_law 1855 = .ok (.aload_n 2, 1) := dk_44 (dk_at dksL_law_72 10 rfl rfl)
theorem dL_law_1856 : decode cL_law 1856 = .ok (.invokevirtual 154, 3) := dk_182 0 154 (dk_at dksL_law_72 11 rfl rfl)
theorem dL_law_1859 : decode cL_law 1859 = .ok (.iload 5, 2) := dk_21 5 (dk_at dksL_law_72 14 rfl rfl)
theorem dL_law_1861 : decode cL_law 1861 = .ok (.if_icmp .eq 5, 3) := dk_159 0 5 (dk_at dksL_law_72 16 rfl rfl)
theorem dL_law_1864 : decode cL_law 1864 = .ok (.iconst 0, 1) := dk_3 (dk_at dksL_law_72 19 rfl rfl)
theorem dL_law_1865 : decode cL_law 1865 = .ok (.ireturn, 1) := dk_172 (dk_at dksL_law_72 20 rfl rfl)
theorem dL_law_1866 : decode cL_law 1866 = .ok (.iload 5, 2) := dk_21 5 (dk_at dksL_law_72 21 rfl rfl)
theorem dL_law_1868 : decode cL_law 1868 = .ok (.ifCond .ne 15, 3) := dk_154 0 15 (dk_at dksL_law_73 0 rfl rfl)
theorem dL_law_1871 : decode cL_law 1871 = .ok (.aload_n 3, 1) := dk_45 (dk_at dksL_law_73 3 rfl rfl)
theorem dL_law_1872 : decode cL_law 1872 = .ok (.iconst 0, 1) := dk_3 (dk_at dksL_law_73 4 rfl rfl)
theorem dL_law_1873 : decode cL_law 1873 = .ok (.laload, 1) := dk_47 (dk_at dksL_law_73 5 rfl rfl)
theorem dL_law_1874 : decode cL_law 1874 = .ok (.iload 6, 2) := dk_21 6 (dk_at dksL_law_73 6 rfl rfl)
theorem dL_law_1876 : decode cL_law 1876 = .ok (.i2l, 1) := dk_133 (dk_at dksL_law_73 8 rfl rfl)
theorem dL_law_1877 : decode cL_law 1877 = .ok (.lcmp, 1) := dk_148 (dk_at dksL_law_73 9 rfl rfl)
theorem dL_law_1878 : decode cL_law 1878 = .ok (.ifCond .eq 5, 3) := dk_153 0 5 (dk_at dksL_law_73 10 rfl rfl)
theorem dL_law_1881 : decode cL_law 1881 = .ok (.iconst 0, 1) := dk_3 (dk_at dksL_law_73 13 rfl rfl)
theorem dL_law_1882 : decode cL_law 1882 = .ok (.ireturn, 1) := dk_172 (dk_at dksL_law_73 14 rfl rfl)
theorem dL_law_1883 : decode cL_law 1883 = .ok (.goto 772, 3) := dk_167 3 4 (dk_at dksL_law_73 15 rfl rfl)
theorem dL_law_1886 : decode cL_law 1886 = .ok (.aload_n 1, 1) := dk_43 (dk_at dksL_law_73 18 rfl rfl)
theorem dL_law_1887 : decode cL_law 1887 = .ok (.aload_n 0, 1) := dk_42 (dk_at dksL_law_73 19 rfl rfl)
theorem dL_law_1888 : decode cL_law 1888 = .ok (.iload 4, 2) := dk_21 4 (dk_at dksL_law_73 20 rfl rfl)
theorem dL_law_1890 : decode cL_law 1890 = .ok (.iconst 1, 1) := dk_4 (dk_at dksL_law_73 22 rfl rfl)
theorem dL_law_1891 : decode cL_law 1891 = .ok (.iadd, 1) := dk_96 (dk_at dksL_law_73 23 rfl rfl)
theorem dL_law_1892 : decode cL_law 1892 = .ok (.iaload, 1) := dk_46 (dk_at dksL_law_74 0 rfl rfl)
theorem dL_law_1893 : decode cL_law 1893 = .ok (.aload_n 3, 1) := dk_45 (dk_at dksL_law_74 1 rfl rfl)
theorem dL_law_1894 : decode cL_law 1894 = .ok (.invokestatic 228, 3) := dk_184 0 228 (dk_at dksL_law_74 2 rfl rfl)
theorem dL_law_1897 : decode cL_law 1897 = .ok (.istore 5, 2) := dk_54 5 (dk_at dksL_law_74 5 rfl rfl)
theorem dL_law_1899 : decode cL_law 1899 = .ok (.aload_n 2, 1) := dk_44 (dk_at dksL_law_74 7 rfl rfl)
theorem dL_law_1900 : decode cL_law 1900 = .ok (.aload_n 0, 1) := dk_42 (dk_at dksL_law_74 8 rfl rfl)
theorem dL_law_1901 : decode cL_law 1901 = .ok (.iload 4, 2) := dk_21 4 (dk_at dksL_law_74 9 rfl rfl)
theorem dL_law_1903 : decode cL_law 1903 = .ok (.iconst 1, 1) := dk_4 (dk_at dksL_law_74 11 rfl rfl)
theorem dL_law_1904 : decode cL_law 1904 = .ok (.iadd, 1) := dk_96 (dk_at dksL_law_74 12 rfl rfl)
theorem dL_law_1905 : decode cL_law 1905 = .ok (.iaload, 1) := dk_46 (dk_at dksL_law_74 13 rfl rfl)
theorem dL_law_1906 : decode cL_law 1906 = .ok (.invokevirtual 230, 3) := dk_182 0 230 (dk_at dksL_law_74 14 rfl rfl)
theorem dL_law_1909 : decode cL_law 1909 = .ok (.istore 6, 2) := dk_54 6 (dk_at dksL_law_74 17 rfl rfl)
theorem dL_law_1911 : decode cL_law 1911 = .ok (.aload_n 2, 1) := dk_44 (dk_at dksL_law_74 19 rfl rfl)
theorem dL_law_1912 : decode cL_law 1912 = .ok (.invokevirtual 154, 3) := dk_182 0 154 (dk_at dksL_law_74 20 rfl rfl)
theorem dL_law_1915 : decode cL_law 1915 = .ok (.iload 5, 2) := dk_21 5 (dk_at dksL_law_75 0 rfl rfl)
theorem dL_law_1917 : decode cL_law 1917 = .ok (.if_icmp .eq 5, 3) := dk_159 0 5 (dk_at dksL_law_75 2 rfl rfl)
theorem dL_law_1920 : decode cL_law 1920 = .ok (.iconst 0, 1) := dk_3 (dk_at dksL_law_75 5 rfl rfl)
theorem dL_law_1921 : decode cL_law 1921 = .ok (.ireturn, 1) := dk_172 (dk_at dksL_law_75 6 rfl rfl)
theorem dL_law_1922 : decode cL_law 1922 = .ok (.iload 5, 2) := dk_21 5 (dk_at dksL_law_75 7 rfl rfl)
theorem dL_law_1924 : decode cL_law 1924 = .ok (.ifCond .ne 15, 3) := dk_154 0 15 (dk_at dksL_law_75 9 rfl rfl)
theorem dL_law_1927 : decode cL_law 1927 = .ok (.aload_n 3, 1) := dk_45 (dk_at dksL_law_75 12 rfl rfl)
theorem dL_law_1928 : decode cL_law 1928 = .ok (.iconst 0, 1) := dk_3 (dk_at dksL_law_75 13 rfl rfl)
theorem dL_law_1929 : decode cL_law 1929 = .ok (.laload, 1) := dk_47 (dk_at dksL_law_75 14 rfl rfl)
theorem dL_law_1930 : decode cL_law 1930 = .ok (.iload 6, 2) := dk_21 6 (dk_at dksL_law_75 15 rfl rfl)
theorem dL_law_1932 : decode cL_law 1932 = .ok (.i2l, 1) := dk_133 (dk_at dksL_law_75 17 rfl rfl)
theorem dL_law_1933 : decode cL_law 1933 = .ok (.lcmp, 1) := dk_148 (dk_at dksL_law_75 18 rfl rfl)
theorem dL_law_1934 : decode cL_law 1934 = .ok (.ifCond .eq 5, 3) := dk_153 0 5 (dk_at dksL_law_75 19 rfl rfl)
theorem dL_law_1937 : decode cL_law 1937 = .ok (.iconst 0, 1) := dk_3 (dk_at dksL_law_75 22 rfl rfl)
theorem dL_law_1938 : decode cL_law 1938 = .ok (.ireturn, 1) := dk_172 (dk_at dksL_law_75 23 rfl rfl)
theorem dL_law_1939 : decode cL_law 1939 = .ok (.goto 716, 3) := dk_167 2 204 (dk_at dksL_law_76 0 rfl rfl)
theorem dL_law_1942 : decode cL_law 1942 = .ok (.aload_n 1, 1) := dk_43 (dk_at dksL_law_76 3 rfl rfl)
theorem dL_law_1943 : decode cL_law 1943 = .ok (.invokevirtual 231, 3) := dk_182 0 231 (dk_at dksL_law_76 4 rfl rfl)
theorem dL_law_1946 : decode cL_law 1946 = .ok (.aload_n 2, 1) := dk_44 (dk_at dksL_law_76 7 rfl rfl)
theorem dL_law_1947 : decode cL_law 1947 = .ok (.invokevirtual 235, 3) := dk_182 0 235 (dk_at dksL_law_76 8 rfl rfl)
theorem dL_law_1950 : decode cL_law 1950 = .ok (.if_icmp .eq 705, 3) := dk_159 2 193 (dk_at dksL_law_76 11 rfl rfl)
theorem dL_law_1953 : decode cL_law 1953 = .ok (.iconst 0, 1) := dk_3 (dk_at dksL_law_76 14 rfl rfl)
theorem dL_law_1954 : decode cL_law 1954 = .ok (.ireturn, 1) := dk_172 (dk_at dksL_law_76 15 rfl rfl)
theorem dL_law_1955 : decode cL_law 1955 = .ok (.aload_n 1, 1) := dk_43 (dk_at dksL_law_76 16 rfl rfl)
theorem dL_law_1956 : decode cL_law 1956 = .ok (.invokevirtual 236, 3) := dk_182 0 236 (dk_at dksL_law_76 17 rfl rfl)
theorem dL_law_1959 : decode cL_law 1959 = .ok (.dstore 5, 2) := dk_57 5 (dk_at dksL_law_76 20 rfl rfl)
theorem dL_law_1961 : decode cL_law 1961 = .ok (.aload_n 2, 1) := dk_44 (dk_at dksL_law_76 22 rfl rfl)
theorem dL_law_1962 : decode cL_law 1962 = .ok (.invokevirtual 240, 3) := dk_182 0 240 (dk_at dksL_law_77 0 rfl rfl)
theorem dL_law_1965 : decode cL_law 1965 = .ok (.dstore 7, 2) := dk_57 7 (dk_at dksL_law_77 3 rfl rfl)
theorem dL_law_1967 : decode cL_law 1967 = .ok (.dload 5, 2) := dk_24 5 (dk_at dksL_law_77 5 rfl rfl)
theorem dL_law_1969 : decode cL_law 1969 = .ok (.dload 7, 2) := dk_24 7 (dk_at dksL_law_77 7 rfl rfl)
theorem dL_law_1971 : decode cL_law 1971 = .ok (.dcmp .l, 1) := dk_151 (dk_at dksL_law_77 9 rfl rfl)
theorem dL_law_1972 : decode cL_law 1972 = .ok (.ifCond .eq 21, 3) := dk_153 0 21 (dk_at dksL_law_77 10 rfl rfl)
theorem dL_law_1975 : decode cL_law 1975 = .ok (.dload 5, 2) := dk_24 5 (dk_at dksL_law_77 13 rfl rfl)
theorem dL_law_1977 : decode cL_law 1977 = .ok (.dload 5, 2) := dk_24 5 (dk_at dksL_law_77 15 rfl rfl)
theorem dL_law_1979 : decode cL_law 1979 = .ok (.dcmp .l, 1) := dk_151 (dk_at dksL_law_77 17 rfl rfl)
theorem dL_law_1980 : decode cL_law 1980 = .ok (.ifCond .eq 11, 3) := dk_153 0 11 (dk_at dksL_law_77 18 rfl rfl)
theorem dL_law_1983 : decode cL_law 1983 = .ok (.dload 7, 2) := dk_24 7 (dk_at dksL_law_77 21 rfl rfl)
theorem dL_law_1985 : decode cL_law 1985 = .ok (.dload 7, 2) := dk_24 7 (dk_at dksL_law_78 0 rfl rfl)
theorem dL_law_1987 : decode cL_law 1987 = .ok (.dcmp .l, 1) := dk_151 (dk_at dksL_law_78 2 rfl rfl)
theorem dL_law_1988 : decode cL_law 1988 = .ok (.ifCond .ne 5, 3) := dk_154 0 5 (dk_at dksL_law_78 3 rfl rfl)
theorem dL_law_1991 : decode cL_law 1991 = .ok (.iconst 0, 1) := dk_3 (dk_at dksL_law_78 6 rfl rfl)
theorem dL_law_1992 : decode cL_law 1992 = .ok (.ireturn, 1) := dk_172 (dk_at dksL_law_78 7 rfl rfl)
theorem dL_law_1993 : decode cL_law 1993 = .ok (.goto 662, 3) := dk_167 2 150 (dk_at dksL_law_78 8 rfl rfl)
theorem dL_law_1996 : decode cL_law 1996 = .ok (.aload_n 1, 1) := dk_43 (dk_at dksL_law_78 11 rfl rfl)
theorem dL_law_1997 : decode cL_law 1997 = .ok (.invokevirtual 241, 3) := dk_182 0 241 (dk_at dksL_law_78 12 rfl rfl)
theorem dL_law_2000 : decode cL_law 2000 = .ok (.f2d, 1) := dk_141 (dk_at dksL_law_78 15 rfl rfl)
theorem dL_law_2001 : decode cL_law 2001 = .ok (.dstore 5, 2) := dk_57 5 (dk_at dksL_law_78 16 rfl rfl)
theorem dL_law_2003 : decode cL_law 2003 = .ok (.aload_n 2, 1) := dk_44 (dk_at dksL_law_78 18 rfl rfl)
theorem dL_law_2004 : decode cL_law 2004 = .ok (.invokevirtual 245, 3) := dk_182 0 245 (dk_at dksL_law_78 19 rfl rfl)
theorem dL_law_2007 : decode cL_law 2007 = .ok (.f2d, 1) := dk_141 (dk_at dksL_law_78 22 rfl rfl)
theorem dL_law_2008 : decode cL_law 2008 = .ok (.dstore 7, 2) := dk_57 7 (dk_at dksL_law_79 0 rfl rfl)
theorem dL_law_2010 : decode cL_law 2010 = .ok (.dload 5, 2) := dk_24 5 (dk_at dksL_law_79 2 rfl rfl)
theorem dL_law_2012 : decode cL_law 2012 = .ok (.dload 7, 2) := dk_24 7 (dk_at dksL_law_79 4 rfl rfl)
theorem dL_law_2014 : decode cL_law 2014 = .ok (.dcmp .l, 1) := dk_151 (dk_at dksL_law_79 6 rfl rfl)
theorem dL_law_2015 : decode cL_law 2015 = .ok (.ifCond .eq 21, 3) := dk_153 0 21 (dk_at dksL_law_79 7 rfl rfl)
theorem dL_law_2018 : decode cL_law 2018 = .ok (.dload 5, 2) := dk_24 5 (dk_at dksL_law_79 10 rfl rfl)
theorem dL_law_2020 : decode cL_law 2020 = .ok (.dload 5, 2) := dk_24 5 (dk_at dksL_law_79 12 rfl rfl)
theorem dL_law_2022 : decode cL_law 2022 = .ok (.dcmp .l, 1) := dk_151 (dk_at dksL_law_79 14 rfl rfl)
theorem dL_law_2023 : decode cL_law 2023 = .ok (.ifCond .eq 11, 3) := dk_153 0 11 (dk_at dksL_law_79 15 rfl rfl)
theorem dL_law_2026 : decode cL_law 2026 = .ok (.dload 7, 2) := dk_24 7 (dk_at dksL_law_79 18 rfl rfl)
theorem dL_law_2028 : decode cL_law 2028 = .ok (.dload 7, 2) := dk_24 7 (dk_at dksL_law_79 20 rfl rfl)
theorem dL_law_2030 : decode cL_law 2030 = .ok (.dcmp .l, 1) := dk_151 (dk_at dksL_law_79 22 rfl rfl)
theorem dL_law_2031 : decode cL_law 2031 = .ok (.ifCond .ne 5, 3) := dk_154 0 5 (dk_at dksL_law_80 0 rfl rfl)
theorem dL_law_2034 : decode cL_law 2034 = .ok (.iconst 0, 1) := dk_3 (dk_at dksL_law_80 3 rfl rfl)
theorem dL_law_2035 : decode cL_law 2035 = .ok (.ireturn, 1) := dk_172 (dk_at dksL_law_80 4 rfl rfl)
theorem dL_law_2036 : decode cL_law 2036 = .ok (.goto 619, 3) := dk_167 2 107 (dk_at dksL_law_80 5 rfl rfl)
theorem dL_law_2039 : decode cL_law 2039 = .ok (.aload_n 1, 1) := dk_43 (dk_at dksL_law_80 8 rfl rfl)
theorem dL_law_2040 : decode cL_law 2040 = .ok (.aload_n 0, 1) := dk_42 (dk_at dksL_law_80 9 rfl rfl)
theorem dL_law_2041 : decode cL_law 2041 = .ok (.iload 4, 2) := dk_21 4 (dk_at dksL_law_80 10 rfl rfl)
theorem dL_law_2043 : decode cL_law 2043 = .ok (.iconst 1, 1) := dk_4 (dk_at dksL_law_80 12 rfl rfl)
theorem dL_law_2044 : decode cL_law 2044 = .ok (.iadd, 1) := dk_96 (dk_at dksL_law_80 13 rfl rfl)
theorem dL_law_2045 : decode cL_law 2045 = .ok (.iaload, 1) := dk_46 (dk_at dksL_law_80 14 rfl rfl)
theorem dL_law_2046 : decode cL_law 2046 = .ok (.aload_n 0, 1) := dk_42 (dk_at dksL_law_80 15 rfl rfl)
theorem dL_law_2047 : decode cL_law 2047 = .ok (.iload 4, 2) := dk_21 4 (dk_at dksL_law_80 16 rfl rfl)
theorem dL_law_2049 : decode cL_law 2049 = .ok (.iconst 2, 1) := dk_5 (dk_at dksL_law_80 18 rfl rfl)
theorem dL_law_2050 : decode cL_law 2050 = .ok (.iadd, 1) := dk_96 (dk_at dksL_law_80 19 rfl rfl)
theorem dL_law_2051 : decode cL_law 2051 = .ok (.iaload, 1) := dk_46 (dk_at dksL_law_80 20 rfl rfl)
theorem dL_law_2052 : decode cL_law 2052 = .ok (.aload_n 3, 1) := dk_45 (dk_at dksL_law_80 21 rfl rfl)
theorem dL_law_2053 : decode cL_law 2053 = .ok (.invokestatic 246, 3) := dk_184 0 246 (dk_at dksL_law_81 0 rfl rfl)
theorem dL_law_2056 : decode cL_law 2056 = .ok (.istore 5, 2) := dk_54 5 (dk_at dksL_law_81 3 rfl rfl)
theorem dL_law_2058 : decode cL_law 2058 = .ok (.aload_n 2, 1) := dk_44 (dk_at dksL_law_81 5 rfl rfl)
theorem dL_law_2059 : decode cL_law 2059 = .ok (.aload_n 0, 1) := dk_42 (dk_at dksL_law_81 6 rfl rfl)
theorem dL_law_2060 : decode cL_law 2060 = .ok (.iload 4, 2) := dk_21 4 (dk_at dksL_law_81 7 rfl rfl)
theorem dL_law_2062 : decode cL_law 2062 = .ok (.iconst 1, 1) := dk_4 (dk_at dksL_law_81 9 rfl rfl)
theorem dL_law_2063 : decode cL_law 2063 = .ok (.iadd, 1) := dk_96 (dk_at dksL_law_81 10 rfl rfl)
theorem dL_law_2064 : decode cL_law 2064 = .ok (.iaload, 1) := dk_46 (dk_at dksL_law_81 11 rfl rfl)
theorem dL_law_2065 : decode cL_law 2065 = .ok (.aload_n 0, 1) := dk_42 (dk_at dksL_law_81 12 rfl rfl)
theorem dL_law_2066 : decode cL_law 2066 = .ok (.iload 4, 2) := dk_21 4 (dk_at dksL_law_81 13 rfl rfl)
theorem dL_law_2068 : decode cL_law 2068 = .ok (.iconst 2, 1) := dk_5 (dk_at dksL_law_81 15 rfl rfl)
theorem dL_law_2069 : decode cL_law 2069 = .ok (.iadd, 1) := dk_96 (dk_at dksL_law_81 16 rfl rfl)
theorem dL_law_2070 : decode cL_law 2070 = .ok (.iaload, 1) := dk_46 (dk_at dksL_law_81 17 rfl rfl)
theorem dL_law_2071 : decode cL_law 2071 = .ok (.invokevirtual 248, 3) := dk_182 0 248 (dk_at dksL_law_81 18 rfl rfl)
theorem dL_law_2074 : decode cL_law 2074 = .ok (.istore 6, 2) := dk_54 6 (dk_at dksL_law_81 21 rfl rfl)
theorem dL_law_2076 : decode cL_law 2076 = .ok (.aload_n 2, 1) := dk_44 (dk_at dksL_law_81 23 rfl rfl)
theorem dL_law_2077 : decode cL_law 2077 = .ok (.invokevirtual 154, 3) := dk_182 0 154 (dk_at dksL_law_82 0 rfl rfl)
theorem dL_law_2080 : decode cL_law 2080 = .ok (.iload 5, 2) := dk_21 5 (dk_at dksL_law_82 3 rfl rfl)
theorem dL_law_2082 : decode cL_law 2082 = .ok (.if_icmp .eq 5, 3) := dk_159 0 5 (dk_at dksL_law_82 5 rfl rfl)
theorem dL_law_2085 : decode cL_law 2085 = .ok (.iconst 0, 1) := dk_3 (dk_at dksL_law_82 8 rfl rfl)
theorem dL_law_2086 : decode cL_law 2086 = .ok (.ireturn, 1) := dk_172 (dk_at dksL_law_82 9 rfl rfl)
theorem dL_law_2087 : decode cL_law 2087 = .ok (.iload 5, 2) := dk_21 5 (dk_at dksL_law_82 10 rfl rfl)
theorem dL_law_2089 : decode cL_law 2089 = .ok (.ifCond .ne 15, 3) := dk_154 0 15 (dk_at dksL_law_82 12 rfl rfl)
theorem dL_law_2092 : decode cL_law 2092 = .ok (.aload_n 3, 1) := dk_45 (dk_at dksL_law_82 15 rfl rfl)
theorem dL_law_2093 : decode cL_law 2093 = .ok (.iconst 0, 1) := dk_3 (dk_at dksL_law_82 16 rfl rfl)
theorem dL_law_2094 : decode cL_law 2094 = .ok (.laload, 1) := dk_47 (dk_at dksL_law_82 17 rfl rfl)
theorem dL_law_2095 : decode cL_law 2095 = .ok (.iload 6, 2) := dk_21 6 (dk_at dksL_law_82 18 rfl rfl)
theorem dL_law_2097 : decode cL_law 2097 = .ok (.i2l, 1) := dk_133 (dk_at dksL_law_82 20 rfl rfl)
theorem dL_law_2098 : decode cL_law 2098 = .ok (.lcmp, 1) := dk_148 (dk_at dksL_law_82 21 rfl rfl)
theorem dL_law_2099 : decode cL_law 2099 = .ok (.ifCond .eq 5, 3) := dk_153 0 5 (dk_at dksL_law_83 0 rfl rfl)
theorem dL_law_2102 : decode cL_law 2102 = .ok (.iconst 0, 1) := dk_3 (dk_at dksL_law_83 3 rfl rfl)
theorem dL_law_2103 : decode cL_law 2103 = .ok (.ireturn, 1) := dk_172 (dk_at dksL_law_83 4 rfl rfl)
theorem dL_law_2104 : decode cL_law 2104 = .ok (.goto 551, 3) := dk_167 2 39 (dk_at dksL_law_83 5 rfl rfl)
theorem dL_law_2107 : decode cL_law 2107 = .ok (.aload_n 1, 1) := dk_43 (dk_at dksL_law_83 8 rfl rfl)
theorem dL_law_2108 : decode cL_law 2108 = .ok (.aload_n 0, 1) := dk_42 (dk_at dksL_law_83 9 rfl rfl)
theorem dL_law_2109 : decode cL_law 2109 = .ok (.iload 4, 2) := dk_21 4 (dk_at dksL_law_83 10 rfl rfl)
theorem dL_law_2111 : decode cL_law 2111 = .ok (.iconst 1, 1) := dk_4 (dk_at dksL_law_83 12 rfl rfl)
theorem dL_law_2112 : decode cL_law 2112 = .ok (.iadd, 1) := dk_96 (dk_at dksL_law_83 13 rfl rfl)
theorem dL_law_2113 : decode cL_law 2113 = .ok (.iaload, 1) := dk_46 (dk_at dksL_law_83 14 rfl rfl)
theorem dL_law_2114 : decode cL_law 2114 = .ok (.aload_n 0, 1) := dk_42 (dk_at dksL_law_83 15 rfl rfl)
theorem dL_law_2115 : decode cL_law 2115 = .ok (.iload 4, 2) := dk_21 4 (dk_at dksL_law_83 16 rfl rfl)
theorem dL_law_2117 : decode cL_law 2117 = .ok (.iconst 2, 1) := dk_5 (dk_at dksL_law_83 18 rfl rfl)
theorem dL_law_2118 : decode cL_law 2118 = .ok (.iadd, 1) := dk_96 (dk_at dksL_law_83 19 rfl rfl)
theorem dL_law_2119 : decode cL_law 2119 = .ok (.iaload, 1) := dk_46 (dk_at dksL_law_83 20 rfl rfl)
theorem dL_law_2120 : decode cL_law 2120 = .ok (.aload_n 0, 1) := dk_42 (dk_at dksL_law_83 21 rfl rfl)
theorem dL_law_2121 : decode cL_law 2121 = .ok (.iload 4, 2) := dk_21 4 (dk_at dksL_law_83 22 rfl rfl)
theorem dL_law_2123 : decode cL_law 2123 = .ok (.iconst 3, 1) := dk_6 (dk_at dksL_law_84 0 rfl rfl)
theorem dL_law_2124 : decode cL_law 2124 = .ok (.iadd, 1) := dk_96 (dk_at dksL_law_84 1 rfl rfl)
theorem dL_law_2125 : decode cL_law 2125 = .ok (.iaload, 1) := dk_46 (dk_at dksL_law_84 2 rfl rfl)
theorem dL_law_2126 : decode cL_law 2126 = .ok (.aload_n 0, 1) := dk_42 (dk_at dksL_law_84 3 rfl rfl)
theorem dL_law_2127 : decode cL_law 2127 = .ok (.iload 4, 2) := dk_21 4 (dk_at dksL_law_84 4 rfl rfl)
theorem dL_law_2129 : decode cL_law 2129 = .ok (.iconst 4, 1) := dk_7 (dk_at dksL_law_84 6 rfl rfl)
theorem dL_law_2130 : decode cL_law 2130 = .ok (.iadd, 1) := dk_96 (dk_at dksL_law_84 7 rfl rfl)
theorem dL_law_2131 : decode cL_law 2131 = .ok (.iaload, 1) := dk_46 (dk_at dksL_law_84 8 rfl rfl)
theorem dL_law_2132 : decode cL_law 2132 = .ok (.aload_n 0, 1) := dk_42 (dk_at dksL_law_84 9 rfl rfl)
theorem dL_law_2133 : decode cL_law 2133 = .ok (.iload 4, 2) := dk_21 4 (dk_at dksL_law_84 10 rfl rfl)
theorem dL_law_2135 : decode cL_law 2135 = .ok (.iconst 5, 1) := dk_8 (dk_at dksL_law_84 12 rfl rfl)
theorem dL_law_2136 : decode cL_law 2136 = .ok (.iadd, 1) := dk_96 (dk_at dksL_law_84 13 rfl rfl)
theorem dL_law_2137 : decode cL_law 2137 = .ok (.iaload, 1) := dk_46 (dk_at dksL_law_84 14 rfl rfl)
theorem dL_law_2138 : decode cL_law 2138 = .ok (.aload_n 0, 1) := dk_42 (dk_at dksL_law_84 15 rfl rfl)
theorem dL_law_2139 : decode cL_law 2139 = .ok (.iload 4, 2) := dk_21 4 (dk_at dksL_law_84 16 rfl rfl)
theorem dL_law_2141 : decode cL_law 2141 = .ok (.bipush 6, 2) := dk_16 6 (dk_at dksL_law_84 18 rfl rfl)
theorem dL_law_2143 : decode cL_law 2143 = .ok (.iadd, 1) := dk_96 (dk_at dksL_law_84 20 rfl rfl)
theorem dL_law_2144 : decode cL_law 2144 = .ok (.iaload, 1) := dk_46 (dk_at dksL_law_84 21 rfl rfl)
theorem dL_law_2145 : decode cL_law 2145 = .ok (.aload_n 3, 1) := dk_45 (dk_at dksL_law_84 22 rfl rfl)
theorem dL_law_2146 : decode cL_law 2146 = .ok (.invokestatic 249, 3) := dk_184 0 249 (dk_at dksL_law_85 0 rfl rfl)
theorem dL_law_2149 : decode cL_law 2149 = .ok (.istore 5, 2) := dk_54 5 (dk_at dksL_law_85 3 rfl rfl)
theorem dL_law_2151 : decode cL_law 2151 = .ok (.aload_n 2, 1) := dk_44 (dk_at dksL_law_85 5 rfl rfl)
theorem dL_law_2152 : decode cL_law 2152 = .ok (.aload_n 0, 1) := dk_42 (dk_at dksL_law_85 6 rfl rfl)
theorem dL_law_2153 : decode cL_law 2153 = .ok (.iload 4, 2) := dk_21 4 (dk_at dksL_law_85 7 rfl rfl)
theorem dL_law_2155 : decode cL_law 2155 = .ok (.iconst 1, 1) := dk_4 (dk_at dksL_law_85 9 rfl rfl)
theorem dL_law_2156 : decode cL_law 2156 = .ok (.iadd, 1) := dk_96 (dk_at dksL_law_85 10 rfl rfl)
theorem dL_law_2157 : decode cL_law 2157 = .ok (.iaload, 1) := dk_46 (dk_at dksL_law_85 11 rfl rfl)
theorem dL_law_2158 : decode cL_law 2158 = .ok (.aload_n 0, 1) := dk_42 (dk_at dksL_law_85 12 rfl rfl)
theorem dL_law_2159 : decode cL_law 2159 = .ok (.iload 4, 2) := dk_21 4 (dk_at dksL_law_85 13 rfl rfl)
theorem dL_law_2161 : decode cL_law 2161 = .ok (.iconst 2, 1) := dk_5 (dk_at dksL_law_85 15 rfl rfl)
theorem dL_law_2162 : decode cL_law 2162 = .ok (.iadd, 1) := dk_96 (dk_at dksL_law_85 16 rfl rfl)
theorem dL_law_2163 : decode cL_law 2163 = .ok (.iaload, 1) := dk_46 (dk_at dksL_law_85 17 rfl rfl)
theorem dL_law_2164 : decode cL_law 2164 = .ok (.aload_n 0, 1) := dk_42 (dk_at dksL_law_85 18 rfl rfl)
theorem dL_law_2165 : decode cL_law 2165 = .ok (.iload 4, 2) := dk_21 4 (dk_at dksL_law_85 19 rfl rfl)
theorem dL_law_2167 : decode cL_law 2167 = .ok (.iconst 3, 1) := dk_6 (dk_at dksL_law_85 21 rfl rfl)
theorem dL_law_2168 : decode cL_law 2168 = .ok (.iadd, 1) := dk_96 (dk_at dksL_law_85 22 rfl rfl)
theorem dL_law_2169 : decode cL_law 2169 = .ok (.iaload, 1) := dk_46 (dk_at dksL_law_85 23 rfl rfl)
theorem dL_law_2170 : decode cL_law 2170 = .ok (.aload_n 0, 1) := dk_42 (dk_at dksL_law_86 0 rfl rfl)
theorem dL_law_2171 : decode cL_law 2171 = .ok (.iload 4, 2) := dk_21 4 (dk_at dksL_law_86 1 rfl rfl)
theorem dL_law_2173 : decode cL_law 2173 = .ok (.iconst 4, 1) := dk_7 (dk_at dksL_law_86 3 rfl rfl)
theorem dL_law_2174 : decode cL_law 2174 = .ok (.iadd, 1) := dk_96 (dk_at dksL_law_86 4 rfl rfl)
theorem dL_law_2175 : decode cL_law 2175 = .ok (.iaload, 1) := dk_46 (dk_at dksL_law_86 5 rfl rfl)
theorem dL_law_2176 : decode cL_law 2176 = .ok (.aload_n 0, 1) := dk_42 (dk_at dksL_law_86 6 rfl rfl)
theorem dL_law_2177 : decode cL_law 2177 = .ok (.iload 4, 2) := dk_21 4 (dk_at dksL_law_86 7 rfl rfl)
theorem dL_law_2179 : decode cL_law 2179 = .ok (.iconst 5, 1) := dk_8 (dk_at dksL_law_86 9 rfl rfl)
theorem dL_law_2180 : decode cL_law 2180 = .ok (.iadd, 1) := dk_96 (dk_at dksL_law_86 10 rfl rfl)
theorem dL_law_2181 : decode cL_law 2181 = .ok (.iaload, 1) := dk_46 (dk_at dksL_law_86 11 rfl rfl)
theorem dL_law_2182 : decode cL_law 2182 = .ok (.aload_n 0, 1) := dk_42 (dk_at dksL_law_86 12 rfl rfl)
theorem dL_law_2183 : decode cL_law 2183 = .ok (.iload 4, 2) := dk_21 4 (dk_at dksL_law_86 13 rfl rfl)
theorem dL_law_2185 : decode cL_law 2185 = .ok (.bipush 6, 2) := dk_16 6 (dk_at dksL_law_86 15 rfl rfl)
theorem dL_law_2187 : decode cL_law 2187 = .ok (.iadd, 1) := dk_96 (dk_at dksL_law_86 17 rfl rfl)
theorem dL_law_2188 : decode cL_law 2188 = .ok (.iaload, 1) := dk_46 (dk_at dksL_law_86 18 rfl rfl)
theorem dL_law_2189 : decode cL_law 2189 = .ok (.invokevirtual 252, 3) := dk_182 0 252 (dk_at dksL_law_86 19 rfl rfl)
theorem dL_law_2192 : decode cL_law 2192 = .ok (.istore 6, 2) := dk_54 6 (dk_at dksL_law_86 22 rfl rfl)
theorem dL_law_2194 : decode cL_law 2194 = .ok (.aload_n 2, 1) := dk_44 (dk_at dksL_law_87 0 rfl rfl)
theorem dL_law_2195 : decode cL_law 2195 = .ok (.invokevirtual 154, 3) := dk_182 0 154 (dk_at dksL_law_87 1 rfl rfl)
theorem dL_law_2198 : decode cL_law 2198 = .ok (.iload 5, 2) := dk_21 5 (dk_at dksL_law_87 4 rfl rfl)
theorem dL_law_2200 : decode cL_law 2200 = .ok (.if_icmp .eq 5, 3) := dk_159 0 5 (dk_at dksL_law_87 6 rfl rfl)
theorem dL_law_2203 : decode cL_law 2203 = .ok (.iconst 0, 1) := dk_3 (dk_at dksL_law_87 9 rfl rfl)
theorem dL_law_2204 : decode cL_law 2204 = .ok (.ireturn, 1) := dk_172 (dk_at dksL_law_87 10 rfl rfl)
theorem dL_law_2205 : decode cL_law 2205 = .ok (.iload 5, 2) := dk_21 5 (dk_at dksL_law_87 11 rfl rfl)
theorem dL_law_2207 : decode cL_law 2207 = .ok (.ifCond .ne 15, 3) := dk_154 0 15 (dk_at dksL_law_87 13 rfl rfl)
theorem dL_law_2210 : decode cL_law 2210 = .ok (.aload_n 3, 1) := dk_45 (dk_at dksL_law_87 16 rfl rfl)
theorem dL_law_2211 : decode cL_law 2211 = .ok (.iconst 0, 1) := dk_3 (dk_at dksL_law_87 17 rfl rfl)
theorem dL_law_2212 : decode cL_law 2212 = .ok (.laload, 1) := dk_47 (dk_at dksL_law_87 18 rfl rfl)
theorem dL_law_2213 : decode cL_law 2213 = .ok (.iload 6, 2) := dk_21 6 (dk_at dksL_law_87 19 rfl rfl)
theorem dL_law_2215 : decode cL_law 2215 = .ok (.i2l, 1) := dk_133 (dk_at dksL_law_87 21 rfl rfl)
theorem dL_law_2216 : decode cL_law 2216 = .ok (.lcmp, 1) := dk_148 (dk_at dksL_law_87 22 rfl rfl)
theorem dL_law_2217 : decode cL_law 2217 = .ok (.ifCond .eq 5, 3) := dk_153 0 5 (dk_at dksL_law_88 0 rfl rfl)
theorem dL_law_2220 : decode cL_law 2220 = .ok (.iconst 0, 1) := dk_3 (dk_at dksL_law_88 3 rfl rfl)
theorem dL_law_2221 : decode cL_law 2221 = .ok (.ireturn, 1) := dk_172 (dk_at dksL_law_88 4 rfl rfl)
theorem dL_law_2222 : decode cL_law 2222 = .ok (.goto 433, 3) := dk_167 1 177 (dk_at dksL_law_88 5 rfl rfl)
theorem dL_law_2225 : decode cL_law 2225 = .ok (.aload_n 1, 1) := dk_43 (dk_at dksL_law_88 8 rfl rfl)
theorem dL_law_2226 : decode cL_law 2226 = .ok (.aload_n 0, 1) := dk_42 (dk_at dksL_law_88 9 rfl rfl)
theorem dL_law_2227 : decode cL_law 2227 = .ok (.iload 4, 2) := dk_21 4 (dk_at dksL_law_88 10 rfl rfl)
theorem dL_law_2229 : decode cL_law 2229 = .ok (.iconst 1, 1) := dk_4 (dk_at dksL_law_88 12 rfl rfl)
theorem dL_law_2230 : decode cL_law 2230 = .ok (.iadd, 1) := dk_96 (dk_at dksL_law_88 13 rfl rfl)
theorem dL_law_2231 : decode cL_law 2231 = .ok (.iaload, 1) := dk_46 (dk_at dksL_law_88 14 rfl rfl)
theorem dL_law_2232 : decode cL_law 2232 = .ok (.aload_n 3, 1) := dk_45 (dk_at dksL_law_88 15 rfl rfl)
theorem dL_law_2233 : decode cL_law 2233 = .ok (.invokestatic 253, 3) := dk_184 0 253 (dk_at dksL_law_88 16 rfl rfl)
theorem dL_law_2236 : decode cL_law 2236 = .ok (.istore 5, 2) := dk_54 5 (dk_at dksL_law_88 19 rfl rfl)
theorem dL_law_2238 : decode cL_law 2238 = .ok (.aload_n 2, 1) := dk_44 (dk_at dksL_law_88 21 rfl rfl)
theorem dL_law_2239 : decode cL_law 2239 = .ok (.aload_n 0, 1) := dk_42 (dk_at dksL_law_88 22 rfl rfl)
theorem dL_law_2240 : decode cL_law 2240 = .ok (.iload 4, 2) := dk_21 4 (dk_at dksL_law_89 0 rfl rfl)
theorem dL_law_2242 : decode cL_law 2242 = .ok (.iconst 1, 1) := dk_4 (dk_at dksL_law_89 2 rfl rfl)
theorem dL_law_2243 : decode cL_law 2243 = .ok (.iadd, 1) := dk_96 (dk_at dksL_law_89 3 rfl rfl)
theorem dL_law_2244 : decode cL_law 2244 = .ok (.iaload, 1) := dk_46 (dk_at dksL_law_89 4 rfl rfl)
theorem dL_law_2245 : decode cL_law 2245 = .ok (.invokevirtual 255, 3) := dk_182 0 255 (dk_at dksL_law_89 5 rfl rfl)
theorem dL_law_2248 : decode cL_law 2248 = .ok (.istore 6, 2) := dk_54 6 (dk_at dksL_law_89 8 rfl rfl)
theorem dL_law_2250 : decode cL_law 2250 = .ok (.aload_n 2, 1) := dk_44 (dk_at dksL_law_89 10 rfl rfl)
theorem dL_law_2251 : decode cL_law 2251 = .ok (.invokevirtual 154, 3) := dk_182 0 154 (dk_at dksL_law_89 11 rfl rfl)
theorem dL_law_2254 : decode cL_law 2254 = .ok (.iload 5, 2) := dk_21 5 (dk_at dksL_law_89 14 rfl rfl)
theorem dL_law_2256 : decode cL_law 2256 = .ok (.if_icmp .eq 5, 3) := dk_159 0 5 (dk_at dksL_law_89 16 rfl rfl)
theorem dL_law_2259 : decode cL_law 2259 = .ok (.iconst 0, 1) := dk_3 (dk_at dksL_law_89 19 rfl rfl)
theorem dL_law_2260 : decode cL_law 2260 = .ok (.ireturn, 1) := dk_172 (dk_at dksL_law_89 20 rfl rfl)
theorem dL_law_2261 : decode cL_law 2261 = .ok (.iload 5, 2) := dk_21 5 (dk_at dksL_law_89 21 rfl rfl)
theorem dL_law_2263 : decode cL_law 2263 = .ok (.ifCond .ne 15, 3) := dk_154 0 15 (dk_at dksL_law_90 0 rfl rfl)
theorem dL_law_2266 : decode cL_law 2266 = .ok (.aload_n 3, 1) := dk_45 (dk_at dksL_law_90 3 rfl rfl)
theorem dL_law_2267 : decode cL_law 2267 = .ok (.iconst 0, 1) := dk_3 (dk_at dksL_law_90 4 rfl rfl)
theorem dL_law_2268 : decode cL_law 2268 = .ok (.laload, 1) := dk_47 (dk_at dksL_law_90 5 rfl rfl)
theorem dL_law_2269 : decode cL_law 2269 = .ok (.iload 6, 2) := dk_21 6 (dk_at dksL_law_90 6 rfl rfl)
theorem dL_law_2271 : decode cL_law 2271 = .ok (.i2l, 1) := dk_133 (dk_at dksL_law_90 8 rfl rfl)
theorem dL_law_2272 : decode cL_law 2272 = .ok (.lcmp, 1) := dk_148 (dk_at dksL_law_90 9 rfl rfl)
theorem dL_law_2273 : decode cL_law 2273 = .ok (.ifCond .eq 5, 3) := dk_153 0 5 (dk_at dksL_law_90 10 rfl rfl)
theorem dL_law_2276 : decode cL_law 2276 = .ok (.iconst 0, 1) := dk_3 (dk_at dksL_law_90 13 rfl rfl)
theorem dL_law_2277 : decode cL_law 2277 = .ok (.ireturn, 1) := dk_172 (dk_at dksL_law_90 14 rfl rfl)
theorem dL_law_2278 : decode cL_law 2278 = .ok (.goto 377, 3) := dk_167 1 121 (dk_at dksL_law_90 15 rfl rfl)
theorem dL_law_2281 : decode cL_law 2281 = .ok (.aload_n 1, 1) := dk_43 (dk_at dksL_law_90 18 rfl rfl)
theorem dL_law_2282 : decode cL_law 2282 = .ok (.aload_n 0, 1) := dk_42 (dk_at dksL_law_90 19 rfl rfl)
theorem dL_law_2283 : decode cL_law 2283 = .ok (.iload 4, 2) := dk_21 4 (dk_at dksL_law_90 20 rfl rfl)
theorem dL_law_2285 : decode cL_law 2285 = .ok (.iconst 1, 1) := dk_4 (dk_at dksL_law_90 22 rfl rfl)
theorem dL_law_2286 : decode cL_law 2286 = .ok (.iadd, 1) := dk_96 (dk_at dksL_law_90 23 rfl rfl)
theorem dL_law_2287 : decode cL_law 2287 = .ok (.iaload, 1) := dk_46 (dk_at dksL_law_91 0 rfl rfl)
theorem dL_law_2288 : decode cL_law 2288 = .ok (.aload_n 0, 1) := dk_42 (dk_at dksL_law_91 1 rfl rfl)
theorem dL_law_2289 : decode cL_law 2289 = .ok (.iload 4, 2) := dk_21 4 (dk_at dksL_law_91 2 rfl rfl)
theorem dL_law_2291 : decode cL_law 2291 = .ok (.iconst 2, 1) := dk_5 (dk_at dksL_law_91 4 rfl rfl)
theorem dL_law_2292 : decode cL_law 2292 = .ok (.iadd, 1) := dk_96 (dk_at dksL_law_91 5 rfl rfl)
theorem dL_law_2293 : decode cL_law 2293 = .ok (.iaload, 1) := dk_46 (dk_at dksL_law_91 6 rfl rfl)
theorem dL_law_2294 : decode cL_law 2294 = .ok (.aload_n 3, 1) := dk_45 (dk_at dksL_law_91 7 rfl rfl)
theorem dL_law_2295 : decode cL_law 2295 = .ok (.invokestatic 256, 3) := dk_184 1 0 (dk_at dksL_law_91 8 rfl rfl)
theorem dL_law_2298 : decode cL_law 2298 = .ok (.istore 5, 2) := dk_54 5 (dk_at dksL_law_91 11 rfl rfl)
theorem dL_law_2300 : decode cL_law 2300 = .ok (.aload_n 2, 1) := dk_44 (dk_at dksL_law_91 13 rfl rfl)
theorem dL_law_2301 : decode cL_law 2301 = .ok (.aload_n 0, 1) := dk_42 (dk_at dksL_law_91 14 rfl rfl)
theorem dL_law_2302 : decode cL_law 2302 = .ok (.iload 4, 2) := dk_21 4 (dk_at dksL_law_91 15 rfl rfl)
theorem dL_law_2304 : decode cL_law 2304 = .ok (.iconst 1, 1) := dk_4 (dk_at dksL_law_91 17 rfl rfl)
theorem dL_law_2305 : decode cL_law 2305 = .ok (.iadd, 1) := dk_96 (dk_at dksL_law_91 18 rfl rfl)
theorem dL_law_2306 : decode cL_law 2306 = .ok (.iaload, 1) := dk_46 (dk_at dksL_law_91 19 rfl rfl)
theorem dL_law_2307 : decode cL_law 2307 = .ok (.aload_n 0, 1) := dk_42 (dk_at dksL_law_91 20 rfl rfl)
theorem dL_law_2308 : decode cL_law 2308 = .ok (.iload 4, 2) := dk_21 4 (dk_at dksL_law_91 21 rfl rfl)
theorem dL_law_2310 : decode cL_law 2310 = .ok (.iconst 2, 1) := dk_5 (dk_at dksL_law_91 23 rfl rfl)
theorem dL_law_2311 : decode cL_law 2311 = .ok (.iadd, 1) := dk_96 (dk_at dksL_law_92 0 rfl rfl)
theorem dL_law_2312 : decode cL_law 2312 = .ok (.iaload, 1) := dk_46 (dk_at dksL_law_92 1 rfl rfl)
theorem dL_law_2313 : decode cL_law 2313 = .ok (.invokevirtual 258, 3) := dk_182 1 2 (dk_at dksL_law_92 2 rfl rfl)
theorem dL_law_2316 : decode cL_law 2316 = .ok (.istore 6, 2) := dk_54 6 (dk_at dksL_law_92 5 rfl rfl)
theorem dL_law_2318 : decode cL_law 2318 = .ok (.aload_n 2, 1) := dk_44 (dk_at dksL_law_92 7 rfl rfl)
theorem dL_law_2319 : decode cL_law 2319 = .ok (.invokevirtual 154, 3) := dk_182 0 154 (dk_at dksL_law_92 8 rfl rfl)
theorem dL_law_2322 : decode cL_law 2322 = .ok (.iload 5, 2) := dk_21 5 (dk_at dksL_law_92 11 rfl rfl)
theorem dL_law_2324 : decode cL_law 2324 = .ok (.if_icmp .eq 5, 3) := dk_159 0 5 (dk_at dksL_law_92 13 rfl rfl)
theorem dL_law_2327 : decode cL_law 2327 = .ok (.iconst 0, 1) := dk_3 (dk_at dksL_law_92 16 rfl rfl)
theorem dL_law_2328 : decode cL_law 2328 = .ok (.ireturn, 1) := dk_172 (dk_at dksL_law_92 17 rfl rfl)
theorem dL_law_2329 : decode cL_law 2329 = .ok (.iload 5, 2) := dk_21 5 (dk_at dksL_law_92 18 rfl rfl)
theorem dL_law_2331 : decode cL_law 2331 = .ok (.ifCond .ne 15, 3) := dk_154 0 15 (dk_at dksL_law_92 20 rfl rfl)
theorem dL_law_2334 : decode cL_law 2334 = .ok (.aload_n 3, 1) := dk_45 (dk_at dksL_law_92 23 rfl rfl)
theorem dL_law_2335 : decode cL_law 2335 = .ok (.iconst 0, 1) := dk_3 (dk_at dksL_law_93 0 rfl rfl)
theorem dL_law_2336 : decode cL_law 2336 = .ok (.laload, 1) := dk_47 (dk_at dksL_law_93 1 rfl rfl)
theorem dL_law_2337 : decode cL_law 2337 = .ok (.iload 6, 2) := dk_21 6 (dk_at dksL_law_93 2 rfl rfl)
theorem dL_law_2339 : decode cL_law 2339 = .ok (.i2l, 1) := dk_133 (dk_at dksL_law_93 4 rfl rfl)
theorem dL_law_2340 : decode cL_law 2340 = .ok (.lcmp, 1) := dk_148 (dk_at dksL_law_93 5 rfl rfl)
theorem dL_law_2341 : decode cL_law 2341 = .ok (.ifCond .eq 5, 3) := dk_153 0 5 (dk_at dksL_law_93 6 rfl rfl)
theorem dL_law_2344 : decode cL_law 2344 = .ok (.iconst 0, 1) := dk_3 (dk_at dksL_law_93 9 rfl rfl)
theorem dL_law_2345 : decode cL_law 2345 = .ok (.ireturn, 1) := dk_172 (dk_at dksL_law_93 10 rfl rfl)
theorem dL_law_2346 : decode cL_law 2346 = .ok (.goto 309, 3) := dk_167 1 53 (dk_at dksL_law_93 11 rfl rfl)
theorem dL_law_2349 : decode cL_law 2349 = .ok (.aload_n 1, 1) := dk_43 (dk_at dksL_law_93 14 rfl rfl)
theorem dL_law_2350 : decode cL_law 2350 = .ok (.aload_n 0, 1) := dk_42 (dk_at dksL_law_93 15 rfl rfl)
theorem dL_law_2351 : decode cL_law 2351 = .ok (.iload 4, 2) := dk_21 4 (dk_at dksL_law_93 16 rfl rfl)
theorem dL_law_2353 : decode cL_law 2353 = .ok (.iconst 1, 1) := dk_4 (dk_at dksL_law_93 18 rfl rfl)
theorem dL_law_2354 : decode cL_law 2354 = .ok (.iadd, 1) := dk_96 (dk_at dksL_law_93 19 rfl rfl)
theorem dL_law_2355 : decode cL_law 2355 = .ok (.iaload, 1) := dk_46 (dk_at dksL_law_93 20 rfl rfl)
theorem dL_law_2356 : decode cL_law 2356 = .ok (.aload_n 0, 1) := dk_42 (dk_at dksL_law_93 21 rfl rfl)
theorem dL_law_2357 : decode cL_law 2357 = .ok (.iload 4, 2) := dk_21 4 (dk_at dksL_law_93 22 rfl rfl)
theorem dL_law_2359 : decode cL_law 2359 = .ok (.iconst 2, 1) := dk_5 (dk_at dksL_law_94 0 rfl rfl)
theorem dL_law_2360 : decode cL_law 2360 = .ok (.iadd, 1) := dk_96 (dk_at dksL_law_94 1 rfl rfl)
theorem dL_law_2361 : decode cL_law 2361 = .ok (.iaload, 1) := dk_46 (dk_at dksL_law_94 2 rfl rfl)
theorem dL_law_2362 : decode cL_law 2362 = .ok (.aload_n 3, 1) := dk_45 (dk_at dksL_law_94 3 rfl rfl)
theorem dL_law_2363 : decode cL_law 2363 = .ok (.invokestatic 259, 3) := dk_184 1 3 (dk_at dksL_law_94 4 rfl rfl)
theorem dL_law_2366 : decode cL_law 2366 = .ok (.istore 5, 2) := dk_54 5 (dk_at dksL_law_94 7 rfl rfl)
theorem dL_law_2368 : decode cL_law 2368 = .ok (.aload_n 2, 1) := dk_44 (dk_at dksL_law_94 9 rfl rfl)
theorem dL_law_2369 : decode cL_law 2369 = .ok (.aload_n 0, 1) := dk_42 (dk_at dksL_law_94 10 rfl rfl)
theorem dL_law_2370 : decode cL_law 2370 = .ok (.iload 4, 2) := dk_21 4 (dk_at dksL_law_94 11 rfl rfl)
theorem dL_law_2372 : decode cL_law 2372 = .ok (.iconst 1, 1) := dk_4 (dk_at dksL_law_94 13 rfl rfl)
theorem dL_law_2373 : decode cL_law 2373 = .ok (.iadd, 1) := dk_96 (dk_at dksL_law_94 14 rfl rfl)
theorem dL_law_2374 : decode cL_law 2374 = .ok (.iaload, 1) := dk_46 (dk_at dksL_law_94 15 rfl rfl)
theorem dL_law_2375 : decode cL_law 2375 = .ok (.aload_n 0, 1) := dk_42 (dk_at dksL_law_94 16 rfl rfl)
theorem dL_law_2376 : decode cL_law 2376 = .ok (.iload 4, 2) := dk_21 4 (dk_at dksL_law_94 17 rfl rfl)
theorem dL_law_2378 : decode cL_law 2378 = .ok (.iconst 2, 1) := dk_5 (dk_at dksL_law_94 19 rfl rfl)
theorem dL_law_2379 : decode cL_law 2379 = .ok (.iadd, 1) := dk_96 (dk_at dksL_law_94 20 rfl rfl)
theorem dL_law_2380 : decode cL_law 2380 = .ok (.iaload, 1) := dk_46 (dk_at dksL_law_94 21 rfl rfl)
theorem dL_law_2381 : decode cL_law 2381 = .ok (.invokevirtual 261, 3) := dk_182 1 5 (dk_at dksL_law_95 0 rfl rfl)
theorem dL_law_2384 : decode cL_law 2384 = .ok (.istore 6, 2) := dk_54 6 (dk_at dksL_law_95 3 rfl rfl)
theorem dL_law_2386 : decode cL_law 2386 = .ok (.aload_n 2, 1) := dk_44 (dk_at dksL_law_95 5 rfl rfl)
theorem dL_law_2387 : decode cL_law 2387 = .ok (.invokevirtual 154, 3) := dk_182 0 154 (dk_at dksL_law_95 6 rfl rfl)
theorem dL_law_2390 : decode cL_law 2390 = .ok (.iload 5, 2) := dk_21 5 (dk_at dksL_law_95 9 rfl rfl)
theorem dL_law_2392 : decode cL_law 2392 = .ok (.if_icmp .eq 5, 3) := dk_159 0 5 (dk_at dksL_law_95 11 rfl rfl)
theorem dL_law_2395 : decode cL_law 2395 = .ok (.iconst 0, 1) := dk_3 (dk_at dksL_law_95 14 rfl rfl)
theorem dL_law_2396 : decode cL_law 2396 = .ok (.ireturn, 1) := dk_172 (dk_at dksL_law_95 15 rfl rfl)
theorem dL_law_2397 : decode cL_law 2397 = .ok (.iload 5, 2) := dk_21 5 (dk_at dksL_law_95 16 rfl rfl)
theorem dL_law_2399 : decode cL_law 2399 = .ok (.ifCond .ne 15, 3) := dk_154 0 15 (dk_at dksL_law_95 18 rfl rfl)
theorem dL_law_2402 : decode cL_law 2402 = .ok (.aload_n 3, 1) := dk_45 (dk_at dksL_law_95 21 rfl rfl)
theorem dL_law_2403 : decode cL_law 2403 = .ok (.iconst 0, 1) := dk_3 (dk_at dksL_law_95 22 rfl rfl)
theorem dL_law_2404 : decode cL_law 2404 = .ok (.laload, 1) := dk_47 (dk_at dksL_law_95 23 rfl rfl)
theorem dL_law_2405 : decode cL_law 2405 = .ok (.iload 6, 2) := dk_21 6 (dk_at dksL_law_96 0 rfl rfl)
theorem dL_law_2407 : decode cL_law 2407 = .ok (.i2l, 1) := dk_133 (dk_at dksL_law_96 2 rfl rfl)
theorem dL_law_2408 : decode cL_law 2408 = .ok (.lcmp, 1) := dk_148 (dk_at dksL_law_96 3 rfl rfl)
theorem dL_law_2409 : decode cL_law 2409 = .ok (.ifCond .eq 5, 3) := dk_153 0 5 (dk_at dksL_law_96 4 rfl rfl)
theorem dL_law_2412 : decode cL_law 2412 = .ok (.iconst 0, 1) := dk_3 (dk_at dksL_law_96 7 rfl rfl)
theorem dL_law_2413 : decode cL_law 2413 = .ok (.ireturn, 1) := dk_172 (dk_at dksL_law_96 8 rfl rfl)
theorem dL_law_2414 : decode cL_law 2414 = .ok (.goto 241, 3) := dk_167 0 241 (dk_at dksL_law_96 9 rfl rfl)
theorem dL_law_2417 : decode cL_law 2417 = .ok (.aload_n 1, 1) := dk_43 (dk_at dksL_law_96 12 rfl rfl)
theorem dL_law_2418 : decode cL_law 2418 = .ok (.aload_n 3, 1) := dk_45 (dk_at dksL_law_96 13 rfl rfl)
theorem dL_law_2419 : decode cL_law 2419 = .ok (.invokestatic 262, 3) := dk_184 1 6 (dk_at dksL_law_96 14 rfl rfl)
theorem dL_law_2422 : decode cL_law 2422 = .ok (.istore 5, 2) := dk_54 5 (dk_at dksL_law_96 17 rfl rfl)
theorem dL_law_2424 : decode cL_law 2424 = .ok (.aload_n 2, 1) := dk_44 (dk_at dksL_law_96 19 rfl rfl)
theorem dL_law_2425 : decode cL_law 2425 = .ok (.invokevirtual 265, 3) := dk_182 1 9 (dk_at dksL_law_96 20 rfl rfl)
theorem dL_law_2428 : decode cL_law 2428 = .ok (.istore 6, 2) := dk_54 6 (dk_at dksL_law_97 0 rfl rfl)
theorem dL_law_2430 : decode cL_law 2430 = .ok (.aload_n 2, 1) := dk_44 (dk_at dksL_law_97 2 rfl rfl)
theorem dL_law_2431 : decode cL_law 2431 = .ok (.invokevirtual 154, 3) := dk_182 0 154 (dk_at dksL_law_97 3 rfl rfl)
theorem dL_law_2434 : decode cL_law 2434 = .ok (.iload 5, 2) := dk_21 5 (dk_at dksL_law_97 6 rfl rfl)
theorem dL_law_2436 : decode cL_law 2436 = .ok (.if_icmp .eq 5, 3) := dk_159 0 5 (dk_at dksL_law_97 8 rfl rfl)
theorem dL_law_2439 : decode cL_law 2439 = .ok (.iconst 0, 1) := dk_3 (dk_at dksL_law_97 11 rfl rfl)
theorem dL_law_2440 : decode cL_law 2440 = .ok (.ireturn, 1) := dk_172 (dk_at dksL_law_97 12 rfl rfl)
theorem dL_law_2441 : decode cL_law 2441 = .ok (.iload 5, 2) := dk_21 5 (dk_at dksL_law_97 13 rfl rfl)
theorem dL_law_2443 : decode cL_law 2443 = .ok (.ifCond .ne 15, 3) := dk_154 0 15 (dk_at dksL_law_97 15 rfl rfl)
theorem dL_law_2446 : decode cL_law 2446 = .ok (.aload_n 3, 1) := dk_45 (dk_at dksL_law_97 18 rfl rfl)
theorem dL_law_2447 : decode cL_law 2447 = .ok (.iconst 0, 1) := dk_3 (dk_at dksL_law_97 19 rfl rfl)
theorem dL_law_2448 : decode cL_law 2448 = .ok (.laload, 1) := dk_47 (dk_at dksL_law_97 20 rfl rfl)
theorem dL_law_2449 : decode cL_law 2449 = .ok (.iload 6, 2) := dk_21 6 (dk_at dksL_law_97 21 rfl rfl)
theorem dL_law_2451 : decode cL_law 2451 = .ok (.i2l, 1) := dk_133 (dk_at dksL_law_97 23 rfl rfl)
theorem dL_law_2452 : decode cL_law 2452 = .ok (.lcmp, 1) := dk_148 (dk_at dksL_law_98 0 rfl rfl)
theorem dL_law_2453 : decode cL_law 2453 = .ok (.ifCond .eq 5, 3) := dk_153 0 5 (dk_at dksL_law_98 1 rfl rfl)
theorem dL_law_2456 : decode cL_law 2456 = .ok (.iconst 0, 1) := dk_3 (dk_at dksL_law_98 4 rfl rfl)
theorem dL_law_2457 : decode cL_law 2457 = .ok (.ireturn, 1) := dk_172 (dk_at dksL_law_98 5 rfl rfl)
theorem dL_law_2458 : decode cL_law 2458 = .ok (.goto 197, 3) := dk_167 0 197 (dk_at dksL_law_98 6 rfl rfl)
theorem dL_law_2461 : decode cL_law 2461 = .ok (.aload_n 1, 1) := dk_43 (dk_at dksL_law_98 9 rfl rfl)
theorem dL_law_2462 : decode cL_law 2462 = .ok (.aload_n 0, 1) := dk_42 (dk_at dksL_law_98 10 rfl rfl)
theorem dL_law_2463 : decode cL_law 2463 = .ok (.iload 4, 2) := dk_21 4 (dk_at dksL_law_98 11 rfl rfl)
theorem dL_law_2465 : decode cL_law 2465 = .ok (.iconst 1, 1) := dk_4 (dk_at dksL_law_98 13 rfl rfl)
theorem dL_law_2466 : decode cL_law 2466 = .ok (.iadd, 1) := dk_96 (dk_at dksL_law_98 14 rfl rfl)
theorem dL_law_2467 : decode cL_law 2467 = .ok (.iaload, 1) := dk_46 (dk_at dksL_law_98 15 rfl rfl)
theorem dL_law_2468 : decode cL_law 2468 = .ok (.aload_n 3, 1) := dk_45 (dk_at dksL_law_98 16 rfl rfl)
theorem dL_law_2469 : decode cL_law 2469 = .ok (.invokestatic 266, 3) := dk_184 1 10 (dk_at dksL_law_98 17 rfl rfl)
theorem dL_law_2472 : decode cL_law 2472 = .ok (.istore 5, 2) := dk_54 5 (dk_at dksL_law_98 20 rfl rfl)
theorem dL_law_2474 : decode cL_law 2474 = .ok (.aload_n 2, 1) := dk_44 (dk_at dksL_law_98 22 rfl rfl)
theorem dL_law_2475 : decode cL_law 2475 = .ok (.aload_n 0, 1) := dk_42 (dk_at dksL_law_98 23 rfl rfl)
theorem dL_law_2476 : decode cL_law 2476 = .ok (.iload 4, 2) := dk_21 4 (dk_at dksL_law_99 0 rfl rfl)
theorem dL_law_2478 : decode cL_law 2478 = .ok (.iconst 1, 1) := dk_4 (dk_at dksL_law_99 2 rfl rfl)
theorem dL_law_2479 : decode cL_law 2479 = .ok (.iadd, 1) := dk_96 (dk_at dksL_law_99 3 rfl rfl)
theorem dL_law_2480 : decode cL_law 2480 = .ok (.iaload, 1) := dk_46 (dk_at dksL_law_99 4 rfl rfl)
theorem dL_law_2481 : decode cL_law 2481 = .ok (.invokevirtual 268, 3) := dk_182 1 12 (dk_at dksL_law_99 5 rfl rfl)
theorem dL_law_2484 : decode cL_law 2484 = .ok (.istore 6, 2) := dk_54 6 (dk_at dksL_law_99 8 rfl rfl)
theorem dL_law_2486 : decode cL_law 2486 = .ok (.aload_n 2, 1) := dk_44 (dk_at dksL_law_99 10 rfl rfl)
theorem dL_law_2487 : decode cL_law 2487 = .ok (.invokevirtual 154, 3) := dk_182 0 154 (dk_at dksL_law_99 11 rfl rfl)
theorem dL_law_2490 : decode cL_law 2490 = .ok (.iload 5, 2) := dk_21 5 (dk_at dksL_law_99 14 rfl rfl)
theorem dL_law_2492 : decode cL_law 2492 = .ok (.if_icmp .eq 5, 3) := dk_159 0 5 (dk_at dksL_law_99 16 rfl rfl)
theorem dL_law_2495 : decode cL_law 2495 = .ok (.iconst 0, 1) := dk_3 (dk_at dksL_law_99 19 rfl rfl)
theorem dL_law_2496 : decode cL_law 2496 = .ok (.ireturn, 1) := dk_172 (dk_at dksL_law_99 20 rfl rfl)
theorem dL_law_2497 : decode cL_law 2497 = .ok (.iload 5, 2) := dk_21 5 (dk_at dksL_law_99 21 rfl rfl)
theorem dL_law_2499 : decode cL_law 2499 = .ok (.ifCond .ne 15, 3) := dk_154 0 15 (dk_at dksL_law_100 0 rfl rfl)
theorem dL_law_2502 : decode cL_law 2502 = .ok (.aload_n 3, 1) := dk_45 (dk_at dksL_law_100 3 rfl rfl)
theorem dL_law_2503 : decode cL_law 2503 = .ok (.iconst 0, 1) := dk_3 (dk_at dksL_law_100 4 rfl rfl)
theorem dL_law_2504 : decode cL_law 2504 = .ok (.laload, 1) := dk_47 (dk_at dksL_law_100 5 rfl rfl)
theorem dL_law_2505 : decode cL_law 2505 = .ok (.iload 6, 2) := dk_21 6 (dk_at dksL_law_100 6 rfl rfl)
theorem dL_law_2507 : decode cL_law 2507 = .ok (.i2l, 1) := dk_133 (dk_at dksL_law_100 8 rfl rfl)
theorem dL_law_2508 : decode cL_law 2508 = .ok (.lcmp, 1) := dk_148 (dk_at dksL_law_100 9 rfl rfl)
theorem dL_law_2509 : decode cL_law 2509 = .ok (.ifCond .eq 5, 3) := dk_153 0 5 (dk_at dksL_law_100 10 rfl rfl)
theorem dL_law_2512 : decode cL_law 2512 = .ok (.iconst 0, 1) := dk_3 (dk_at dksL_law_100 13 rfl rfl)
theorem dL_law_2513 : decode cL_law 2513 = .ok (.ireturn, 1) := dk_172 (dk_at dksL_law_100 14 rfl rfl)
theorem dL_law_2514 : decode cL_law 2514 = .ok (.goto 141, 3) := dk_167 0 141 (dk_at dksL_law_100 15 rfl rfl)
theorem dL_law_2517 : decode cL_law 2517 = .ok (.aload_n 1, 1) := dk_43 (dk_at dksL_law_100 18 rfl rfl)
theorem dL_law_2518 : decode cL_law 2518 = .ok (.aload_n 0, 1) := dk_42 (dk_at dksL_law_100 19 rfl rfl)
theorem dL_law_2519 : decode cL_law 2519 = .ok (.iload 4, 2) := dk_21 4 (dk_at dksL_law_100 20 rfl rfl)
theorem dL_law_2521 : decode cL_law 2521 = .ok (.iconst 1, 1) := dk_4 (dk_at dksL_law_100 22 rfl rfl)
theorem dL_law_2522 : decode cL_law 2522 = .ok (.iadd, 1) := dk_96 (dk_at dksL_law_100 23 rfl rfl)
theorem dL_law_2523 : decode cL_law 2523 = .ok (.iaload, 1) := dk_46 (dk_at dksL_law_101 0 rfl rfl)
theorem dL_law_2524 : decode cL_law 2524 = .ok (.aload_n 3, 1) := dk_45 (dk_at dksL_law_101 1 rfl rfl)
theorem dL_law_2525 : decode cL_law 2525 = .ok (.invokestatic 269, 3) := dk_184 1 13 (dk_at dksL_law_101 2 rfl rfl)
theorem dL_law_2528 : decode cL_law 2528 = .ok (.istore 5, 2) := dk_54 5 (dk_at dksL_law_101 5 rfl rfl)
theorem dL_law_2530 : decode cL_law 2530 = .ok (.aload_n 2, 1) := dk_44 (dk_at dksL_law_101 7 rfl rfl)
theorem dL_law_2531 : decode cL_law 2531 = .ok (.aload_n 0, 1) := dk_42 (dk_at dksL_law_101 8 rfl rfl)
theorem dL_law_2532 : decode cL_law 2532 = .ok (.iload 4, 2) := dk_21 4 (dk_at dksL_law_101 9 rfl rfl)
theorem dL_law_2534 : decode cL_law 2534 = .ok (.iconst 1, 1) := dk_4 (dk_at dksL_law_101 11 rfl rfl)
theorem dL_law_2535 : decode cL_law 2535 = .ok (.iadd, 1) := dk_96 (dk_at dksL_law_101 12 rfl rfl)
theorem dL_law_2536 : decode cL_law 2536 = .ok (.iaload, 1) := dk_46 (dk_at dksL_law_101 13 rfl rfl)
theorem dL_law_2537 : decode cL_law 2537 = .ok (.invokevirtual 271, 3) := dk_182 1 15 (dk_at dksL_law_101 14 rfl rfl)
theorem dL_law_2540 : decode cL_law 2540 = .ok (.istore 6, 2) := dk_54 6 (dk_at dksL_law_101 17 rfl rfl)
theorem dL_law_2542 : decode cL_law 2542 = .ok (.aload_n 2, 1) := dk_44 (dk_at dksL_law_101 19 rfl rfl)
theorem dL_law_2543 : decode cL_law 2543 = .ok (.invokevirtual 154, 3) := dk_182 0 154 (dk_at dksL_law_101 20 rfl rfl)
theorem dL_law_2546 : decode cL_law 2546 = .ok (.iload 5, 2) := dk_21 5 (dk_at dksL_law_102 0 rfl rfl)
theorem dL_law_2548 : decode cL_law 2548 = .ok (.if_icmp .eq 5, 3) := dk_159 0 5 (dk_at dksL_law_102 2 rfl rfl)
theorem dL_law_2551 : decode cL_law 2551 = .ok (.iconst 0, 1) := dk_3 (dk_at dksL_law_102 5 rfl rfl)
theorem dL_law_2552 : decode cL_law 2552 = .ok (.ireturn, 1) := dk_172 (dk_at dksL_law_102 6 rfl rfl)
theorem dL_law_2553 : decode cL_law 2553 = .ok (.iload 5, 2) := dk_21 5 (dk_at dksL_law_102 7 rfl rfl)
theorem dL_law_2555 : decode cL_law 2555 = .ok (.ifCond .ne 15, 3) := dk_154 0 15 (dk_at dksL_law_102 9 rfl rfl)
theorem dL_law_2558 : decode cL_law 2558 = .ok (.aload_n 3, 1) := dk_45 (dk_at dksL_law_102 12 rfl rfl)
theorem dL_law_2559 : decode cL_law 2559 = .ok (.iconst 0, 1) := dk_3 (dk_at dksL_law_102 13 rfl rfl)
theorem dL_law_2560 : decode cL_law 2560 = .ok (.laload, 1) := dk_47 (dk_at dksL_law_102 14 rfl rfl)
theorem dL_law_2561 : decode cL_law 2561 = .ok (.iload 6, 2) := dk_21 6 (dk_at dksL_law_102 15 rfl rfl)
theorem dL_law_2563 : decode cL_law 2563 = .ok (.i2l, 1) := dk_133 (dk_at dksL_law_102 17 rfl rfl)
theorem dL_law_2564 : decode cL_law 2564 = .ok (.lcmp, 1) := dk_148 (dk_at dksL_law_102 18 rfl rfl)
theorem dL_law_2565 : decode cL_law 2565 = .ok (.ifCond .eq 5, 3) := dk_153 0 5 (dk_at dksL_law_102 19 rfl rfl)
theorem dL_law_2568 : decode cL_law 2568 = .ok (.iconst 0, 1) := dk_3 (dk_at dksL_law_102 22 rfl rfl)
theorem dL_law_2569 : decode cL_law 2569 = .ok (.ireturn, 1) := dk_172 (dk_at dksL_law_102 23 rfl rfl)
theorem dL_law_2570 : decode cL_law 2570 = .ok (.goto 85, 3) := dk_167 0 85 (dk_at dksL_law_103 0 rfl rfl)
theorem dL_law_2573 : decode cL_law 2573 = .ok (.aload_n 1, 1) := dk_43 (dk_at dksL_law_103 3 rfl rfl)
theorem dL_law_2574 : decode cL_law 2574 = .ok (.aload_n 0, 1) := dk_42 (dk_at dksL_law_103 4 rfl rfl)
theorem dL_law_2575 : decode cL_law 2575 = .ok (.iload 4, 2) := dk_21 4 (dk_at dksL_law_103 5 rfl rfl)
theorem dL_law_2577 : decode cL_law 2577 = .ok (.iconst 1, 1) := dk_4 (dk_at dksL_law_103 7 rfl rfl)
theorem dL_law_2578 : decode cL_law 2578 = .ok (.iadd, 1) := dk_96 (dk_at dksL_law_103 8 rfl rfl)
theorem dL_law_2579 : decode cL_law 2579 = .ok (.iaload, 1) := dk_46 (dk_at dksL_law_103 9 rfl rfl)
theorem dL_law_2580 : decode cL_law 2580 = .ok (.invokevirtual 272, 3) := dk_182 1 16 (dk_at dksL_law_103 10 rfl rfl)
theorem dL_law_2583 : decode cL_law 2583 = .ok (.aload_n 2, 1) := dk_44 (dk_at dksL_law_103 13 rfl rfl)
theorem dL_law_2584 : decode cL_law 2584 = .ok (.aload_n 0, 1) := dk_42 (dk_at dksL_law_103 14 rfl rfl)
theorem dL_law_2585 : decode cL_law 2585 = .ok (.iload 4, 2) := dk_21 4 (dk_at dksL_law_103 15 rfl rfl)
theorem dL_law_2587 : decode cL_law 2587 = .ok (.iconst 1, 1) := dk_4 (dk_at dksL_law_103 17 rfl rfl)
theorem dL_law_2588 : decode cL_law 2588 = .ok (.iadd, 1) := dk_96 (dk_at dksL_law_103 18 rfl rfl)
theorem dL_law_2589 : decode cL_law 2589 = .ok (.iaload, 1) := dk_46 (dk_at dksL_law_103 19 rfl rfl)
theorem dL_law_2590 : decode cL_law 2590 = .ok (.invokevirtual 275, 3) := dk_182 1 19 (dk_at dksL_law_103 20 rfl rfl)
theorem dL_law_2593 : decode cL_law 2593 = .ok (.if_icmp .eq 62, 3) := dk_159 0 62 (dk_at dksL_law_104 0 rfl rfl)
theorem dL_law_2596 : decode cL_law 2596 = .ok (.iconst 0, 1) := dk_3 (dk_at dksL_law_104 3 rfl rfl)
theorem dL_law_2597 : decode cL_law 2597 = .ok (.ireturn, 1) := dk_172 (dk_at dksL_law_104 4 rfl rfl)
theorem dL_law_2598 : decode cL_law 2598 = .ok (.aload_n 1, 1) := dk_43 (dk_at dksL_law_104 5 rfl rfl)
theorem dL_law_2599 : decode cL_law 2599 = .ok (.invokevirtual 276, 3) := dk_182 1 20 (dk_at dksL_law_104 6 rfl rfl)
theorem dL_law_2602 : decode cL_law 2602 = .ok (.aload_n 2, 1) := dk_44 (dk_at dksL_law_104 9 rfl rfl)
theorem dL_law_2603 : decode cL_law 2603 = .ok (.invokevirtual 279, 3) := dk_182 1 23 (dk_at dksL_law_104 10 rfl rfl)
theorem dL_law_2606 : decode cL_law 2606 = .ok (.if_icmp .eq 49, 3) := dk_159 0 49 (dk_at dksL_law_104 13 rfl rfl)
theorem dL_law_2609 : decode cL_law 2609 = .ok (.iconst 0, 1) := dk_3 (dk_at dksL_law_104 16 rfl rfl)
theorem dL_law_2610 : decode cL_law 2610 = .ok (.ireturn, 1) := dk_172 (dk_at dksL_law_104 17 rfl rfl)
theorem dL_law_2611 : decode cL_law 2611 = .ok (.aload_n 1, 1) := dk_43 (dk_at dksL_law_104 18 rfl rfl)
theorem dL_law_2612 : decode cL_law 2612 = .ok (.aload_n 3, 1) := dk_45 (dk_at dksL_law_104 19 rfl rfl)
theorem dL_law_2613 : decode cL_law 2613 = .ok (.invokestatic 280, 3) := dk_184 1 24 (dk_at dksL_law_104 20 rfl rfl)
theorem dL_law_2616 : decode cL_law 2616 = .ok (.istore 5, 2) := dk_54 5 (dk_at dksL_law_105 0 rfl rfl)
theorem dL_law_2618 : decode cL_law 2618 = .ok (.aload_n 2, 1) := dk_44 (dk_at dksL_law_105 2 rfl rfl)
theorem dL_law_2619 : decode cL_law 2619 = .ok (.invokevirtual 282, 3) := dk_182 1 26 (dk_at dksL_law_105 3 rfl rfl)
theorem dL_law_2622 : decode cL_law 2622 = .ok (.istore 6, 2) := dk_54 6 (dk_at dksL_law_105 6 rfl rfl)
theorem dL_law_2624 : decode cL_law 2624 = .ok (.aload_n 2, 1) := dk_44 (dk_at dksL_law_105 8 rfl rfl)
theorem dL_law_2625 : decode cL_law 2625 = .ok (.invokevirtual 154, 3) := dk_182 0 154 (dk_at dksL_law_105 9 rfl rfl)
theorem dL_law_2628 : decode cL_law 2628 = .ok (.iload 5, 2) := dk_21 5 (dk_at dksL_law_105 12 rfl rfl)
theorem dL_law_2630 : decode cL_law 2630 = .ok (.if_icmp .eq 5, 3) := dk_159 0 5 (dk_at dksL_law_105 14 rfl rfl)
theorem dL_law_2633 : decode cL_law 2633 = .ok (.iconst 0, 1) := dk_3 (dk_at dksL_law_105 17 rfl rfl)
theorem dL_law_2634 : decode cL_law 2634 = .ok (.ireturn, 1) := dk_172 (dk_at dksL_law_105 18 rfl rfl)
theorem dL_law_2635 : decode cL_law 2635 = .ok (.iload 5, 2) := dk_21 5 (dk_at dksL_law_105 19 rfl rfl)
theorem dL_law_2637 : decode cL_law 2637 = .ok (.ifCond .ne 15, 3) := dk_154 0 15 (dk_at dksL_law_105 21 rfl rfl)
theorem dL_law_2640 : decode cL_law 2640 = .ok (.aload_n 3, 1) := dk_45 (dk_at dksL_law_106 0 rfl rfl)
theorem dL_law_2641 : decode cL_law 2641 = .ok (.iconst 0, 1) := dk_3 (dk_at dksL_law_106 1 rfl rfl)
theorem dL_law_2642 : decode cL_law 2642 = .ok (.laload, 1) := dk_47 (dk_at dksL_law_106 2 rfl rfl)
theorem dL_law_2643 : decode cL_law 2643 = .ok (.iload 6, 2) := dk_21 6 (dk_at dksL_law_106 3 rfl rfl)
theorem dL_law_2645 : decode cL_law 2645 = .ok (.i2l, 1) := dk_133 (dk_at dksL_law_106 5 rfl rfl)
theorem dL_law_2646 : decode cL_law 2646 = .ok (.lcmp, 1) := dk_148 (dk_at dksL_law_106 6 rfl rfl)
theorem dL_law_2647 : decode cL_law 2647 = .ok (.ifCond .eq 5, 3) := dk_153 0 5 (dk_at dksL_law_106 7 rfl rfl)
theorem dL_law_2650 : decode cL_law 2650 = .ok (.iconst 0, 1) := dk_3 (dk_at dksL_law_106 10 rfl rfl)
theorem dL_law_2651 : decode cL_law 2651 = .ok (.ireturn, 1) := dk_172 (dk_at dksL_law_106 11 rfl rfl)
theorem dL_law_2652 : decode cL_law 2652 = .ok (.goto 3, 3) := dk_167 0 3 (dk_at dksL_law_106 12 rfl rfl)
theorem dL_law_2655 : decode cL_law 2655 = .ok (.iinc 4 7, 3) := dk_132 4 7 (dk_at dksL_law_106 15 rfl rfl)
theorem dL_law_2658 : decode cL_law 2658 = .ok (.goto (-2635), 3) := dk_167 245 181 (dk_at dksL_law_106 18 rfl rfl)
theorem dL_law_2661 : decode cL_law 2661 = .ok (.iconst 1, 1) := dk_4 (dk_at dksL_law_106 21 rfl rfl)
theorem dL_law_2662 : decode cL_law 2662 = .ok (.ireturn, 1) := dk_172 (dk_at dksL_law_106 22 rfl rfl)
