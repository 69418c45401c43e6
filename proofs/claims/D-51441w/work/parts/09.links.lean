/-! LINKS (printed by gen/mklinks.py) -/
set_option maxRecDepth 100000
theorem ty_X1 : ∀ j, j < 9 → parseFieldDescriptor (TX1 j).2.2.1 = some (tyX1 j) := tyX1_ok
theorem np_X1 : ∀ a, a < 9 → ∀ b, b < 9 → a ≠ b → (TX1 a).2.1 ≠ (TX1 b).2.1 ∨ ((TX1 a).2.2.2 = true ∧ (TX1 b).2.2.2 = true ∧ (TX1 a).1 ≠ (TX1 b).1) := fun a ha b hb h => Or.inl (nmX1 a ha b hb h)
theorem ty_X2 : ∀ j, j < 14 → parseFieldDescriptor (TX2 j).2.2.1 = some (tyX2 j) := tyX2_ok
theorem np_X2 : ∀ a, a < 14 → ∀ b, b < 14 → a ≠ b → (TX2 a).2.1 ≠ (TX2 b).2.1 ∨ ((TX2 a).2.2.2 = true ∧ (TX2 b).2.2.2 = true ∧ (TX2 a).1 ≠ (TX2 b).1) := fun a ha b hb h => Or.inl (nmX2 a ha b hb h)
theorem ty_X3 : ∀ j, j < 11 → parseFieldDescriptor (TX3 j).2.2.1 = some (tyX3 j) := tyX3_ok
theorem np_X3 : ∀ a, a < 11 → ∀ b, b < 11 → a ≠ b → (TX3 a).2.1 ≠ (TX3 b).2.1 ∨ ((TX3 a).2.2.2 = true ∧ (TX3 b).2.2.2 = true ∧ (TX3 a).1 ≠ (TX3 b).1) := fun a ha b hb h => Or.inl (nmX3 a ha b hb h)
theorem ty_X4 : ∀ j, j < 28 → parseFieldDescriptor (TX4 j).2.2.1 = some (tyX4 j) := tyX4_ok
theorem np_X4 : ∀ a, a < 28 → ∀ b, b < 28 → a ≠ b → (TX4 a).2.1 ≠ (TX4 b).2.1 ∨ ((TX4 a).2.2.2 = true ∧ (TX4 b).2.2.2 = true ∧ (TX4 a).1 ≠ (TX4 b).1) := fun a ha b hb h => Or.inl (nmX4 a ha b hb h)
theorem ty_X6 : ∀ j, j < 8 → parseFieldDescriptor (TX6 j).2.2.1 = some (tyX6 j) := tyX6_ok
theorem np_X6 : ∀ a, a < 8 → ∀ b, b < 8 → a ≠ b → (TX6 a).2.1 ≠ (TX6 b).2.1 ∨ ((TX6 a).2.2.2 = true ∧ (TX6 b).2.2.2 = true ∧ (TX6 a).1 ≠ (TX6 b).1) := by decide +kernel
theorem ty_X7 : ∀ j, j < 8 → parseFieldDescriptor (TX7 j).2.2.1 = some (tyX7 j) := tyX7_ok
theorem np_X7 : ∀ a, a < 8 → ∀ b, b < 8 → a ≠ b → (TX7 a).2.1 ≠ (TX7 b).2.1 ∨ ((TX7 a).2.2.2 = true ∧ (TX7 b).2.2.2 = true ∧ (TX7 a).1 ≠ (TX7 b).1) := fun a ha b hb h => Or.inl (nmX7 a ha b hb h)
theorem ty_X8 : ∀ j, j < 8 → parseFieldDescriptor (TX8 j).2.2.1 = some (tyX8 j) := tyX8_ok
theorem np_X8 : ∀ a, a < 8 → ∀ b, b < 8 → a ≠ b → (TX8 a).2.1 ≠ (TX8 b).2.1 ∨ ((TX8 a).2.2.2 = true ∧ (TX8 b).2.2.2 = true ∧ (TX8 a).1 ≠ (TX8 b).1) := by decide +kernel
theorem ty_X10 : ∀ j, j < 3 → parseFieldDescriptor (TX10 j).2.2.1 = some (tyX10 j) := tyX10_ok
theorem np_X10 : ∀ a, a < 3 → ∀ b, b < 3 → a ≠ b → (TX10 a).2.1 ≠ (TX10 b).2.1 ∨ ((TX10 a).2.2.2 = true ∧ (TX10 b).2.2.2 = true ∧ (TX10 a).1 ≠ (TX10 b).1) := fun a ha b hb h => Or.inl (nmX10 a ha b hb h)
theorem ty_X11 : ∀ j, j < 2 → parseFieldDescriptor (TX11 j).2.2.1 = some (tyX11 j) := tyX11_ok
theorem np_X11 : ∀ a, a < 2 → ∀ b, b < 2 → a ≠ b → (TX11 a).2.1 ≠ (TX11 b).2.1 ∨ ((TX11 a).2.2.2 = true ∧ (TX11 b).2.2.2 = true ∧ (TX11 a).1 ≠ (TX11 b).1) := fun a ha b hb h => Or.inl (nmX11 a ha b hb h)
theorem ty_X12 : ∀ j, j < 2 → parseFieldDescriptor (TX12 j).2.2.1 = some (tyX12 j) := tyX12_ok
theorem np_X12 : ∀ a, a < 2 → ∀ b, b < 2 → a ≠ b → (TX12 a).2.1 ≠ (TX12 b).2.1 ∨ ((TX12 a).2.2.2 = true ∧ (TX12 b).2.2.2 = true ∧ (TX12 a).1 ≠ (TX12 b).1) := fun a ha b hb h => Or.inl (nmX12 a ha b hb h)
theorem ty_X13 : ∀ j, j < 3 → parseFieldDescriptor (TX13 j).2.2.1 = some (tyX13 j) := tyX13_ok
theorem np_X13 : ∀ a, a < 3 → ∀ b, b < 3 → a ≠ b → (TX13 a).2.1 ≠ (TX13 b).2.1 ∨ ((TX13 a).2.2.2 = true ∧ (TX13 b).2.2.2 = true ∧ (TX13 a).1 ≠ (TX13 b).1) := fun a ha b hb h => Or.inl (nmX13 a ha b hb h)
theorem ty_X14 : ∀ j, j < 3 → parseFieldDescriptor (TX14 j).2.2.1 = some (tyX14 j) := tyX14_ok
theorem np_X14 : ∀ a, a < 3 → ∀ b, b < 3 → a ≠ b → (TX14 a).2.1 ≠ (TX14 b).2.1 ∨ ((TX14 a).2.2.2 = true ∧ (TX14 b).2.2.2 = true ∧ (TX14 a).1 ≠ (TX14 b).1) := fun a ha b hb h => Or.inl (nmX14 a ha b hb h)
theorem ty_X16 : ∀ j, j < 3 → parseFieldDescriptor (TX16 j).2.2.1 = some (tyX16 j) := tyX16_ok
theorem np_X16 : ∀ a, a < 3 → ∀ b, b < 3 → a ≠ b → (TX16 a).2.1 ≠ (TX16 b).2.1 ∨ ((TX16 a).2.2.2 = true ∧ (TX16 b).2.2.2 = true ∧ (TX16 a).1 ≠ (TX16 b).1) := fun a ha b hb h => Or.inl (nmX16 a ha b hb h)
theorem ty_X17 : ∀ j, j < 2 → parseFieldDescriptor (TX17 j).2.2.1 = some (tyX17 j) := tyX17_ok
theorem np_X17 : ∀ a, a < 2 → ∀ b, b < 2 → a ≠ b → (TX17 a).2.1 ≠ (TX17 b).2.1 ∨ ((TX17 a).2.2.2 = true ∧ (TX17 b).2.2.2 = true ∧ (TX17 a).1 ≠ (TX17 b).1) := fun a ha b hb h => Or.inl (nmX17 a ha b hb h)
theorem ty_J2 : ∀ j, j < 3 → parseFieldDescriptor (TJ2 j).2.2.1 = some (tyJ2 j) := tyJ2_ok
theorem np_J2 : ∀ a, a < 3 → ∀ b, b < 3 → a ≠ b → (TJ2 a).2.1 ≠ (TJ2 b).2.1 ∨ ((TJ2 a).2.2.2 = true ∧ (TJ2 b).2.2.2 = true ∧ (TJ2 a).1 ≠ (TJ2 b).1) := fun a ha b hb h => Or.inl (nmJ2 a ha b hb h)
theorem ty_J8 : ∀ j, j < 4 → parseFieldDescriptor (TJ8 j).2.2.1 = some (tyJ8 j) := tyJ8_ok
theorem np_J8 : ∀ a, a < 4 → ∀ b, b < 4 → a ≠ b → (TJ8 a).2.1 ≠ (TJ8 b).2.1 ∨ ((TJ8 a).2.2.2 = true ∧ (TJ8 b).2.2.2 = true ∧ (TJ8 a).1 ≠ (TJ8 b).1) := fun a ha b hb h => Or.inl (nmJ8 a ha b hb h)
theorem ty_J9 : ∀ j, j < 4 → parseFieldDescriptor (TJ9 j).2.2.1 = some (tyJ9 j) := tyJ9_ok
theorem np_J9 : ∀ a, a < 4 → ∀ b, b < 4 → a ≠ b → (TJ9 a).2.1 ≠ (TJ9 b).2.1 ∨ ((TJ9 a).2.2.2 = true ∧ (TJ9 b).2.2.2 = true ∧ (TJ9 a).1 ≠ (TJ9 b).1) := fun a ha b hb h => Or.inl (nmJ9 a ha b hb h)
theorem ty_J17 : ∀ j, j < 1 → parseFieldDescriptor (TJ17 j).2.2.1 = some (tyJ17 j) := tyJ17_ok
theorem np_J17 : ∀ a, a < 1 → ∀ b, b < 1 → a ≠ b → (TJ17 a).2.1 ≠ (TJ17 b).2.1 ∨ ((TJ17 a).2.2.2 = true ∧ (TJ17 b).2.2.2 = true ∧ (TJ17 a).1 ≠ (TJ17 b).1) := fun a ha b hb h => Or.inl (nmJ17 a ha b hb h)
theorem ty_J19 : ∀ j, j < 9 → parseFieldDescriptor (TJ19 j).2.2.1 = some (tyJ19 j) := tyJ19_ok
theorem np_J19 : ∀ a, a < 9 → ∀ b, b < 9 → a ≠ b → (TJ19 a).2.1 ≠ (TJ19 b).2.1 ∨ ((TJ19 a).2.2.2 = true ∧ (TJ19 b).2.2.2 = true ∧ (TJ19 a).1 ≠ (TJ19 b).1) := fun a ha b hb h => Or.inl (nmJ19 a ha b hb h)
theorem ty_J22 : ∀ j, j < 6 → parseFieldDescriptor (TJ22 j).2.2.1 = some (tyJ22 j) := tyJ22_ok
theorem np_J22 : ∀ a, a < 6 → ∀ b, b < 6 → a ≠ b → (TJ22 a).2.1 ≠ (TJ22 b).2.1 ∨ ((TJ22 a).2.2.2 = true ∧ (TJ22 b).2.2.2 = true ∧ (TJ22 a).1 ≠ (TJ22 b).1) := fun a ha b hb h => Or.inl (nmJ22 a ha b hb h)
theorem ty_J24 : ∀ j, j < 3 → parseFieldDescriptor (TJ24 j).2.2.1 = some (tyJ24 j) := tyJ24_ok
theorem np_J24 : ∀ a, a < 3 → ∀ b, b < 3 → a ≠ b → (TJ24 a).2.1 ≠ (TJ24 b).2.1 ∨ ((TJ24 a).2.2.2 = true ∧ (TJ24 b).2.2.2 = true ∧ (TJ24 a).1 ≠ (TJ24 b).1) := fun a ha b hb h => Or.inl (nmJ24 a ha b hb h)
theorem ty_J31 : ∀ j, j < 4 → parseFieldDescriptor (TJ31 j).2.2.1 = some (tyJ31 j) := tyJ31_ok
theorem np_J31 : ∀ a, a < 4 → ∀ b, b < 4 → a ≠ b → (TJ31 a).2.1 ≠ (TJ31 b).2.1 ∨ ((TJ31 a).2.2.2 = true ∧ (TJ31 b).2.2.2 = true ∧ (TJ31 a).1 ≠ (TJ31 b).1) := fun a ha b hb h => Or.inl (nmJ31 a ha b hb h)
theorem ty_J35 : ∀ j, j < 4 → parseFieldDescriptor (TJ35 j).2.2.1 = some (tyJ35 j) := tyJ35_ok
theorem np_J35 : ∀ a, a < 4 → ∀ b, b < 4 → a ≠ b → (TJ35 a).2.1 ≠ (TJ35 b).2.1 ∨ ((TJ35 a).2.2.2 = true ∧ (TJ35 b).2.2.2 = true ∧ (TJ35 a).1 ≠ (TJ35 b).1) := fun a ha b hb h => Or.inl (nmJ35 a ha b hb h)
theorem ty_J36 : ∀ j, j < 1 → parseFieldDescriptor (TJ36 j).2.2.1 = some (tyJ36 j) := tyJ36_ok
theorem np_J36 : ∀ a, a < 1 → ∀ b, b < 1 → a ≠ b → (TJ36 a).2.1 ≠ (TJ36 b).2.1 ∨ ((TJ36 a).2.2.2 = true ∧ (TJ36 b).2.2.2 = true ∧ (TJ36 a).1 ≠ (TJ36 b).1) := fun a ha b hb h => Or.inl (nmJ36 a ha b hb h)
theorem ty_J41 : ∀ j, j < 4 → parseFieldDescriptor (TJ41 j).2.2.1 = some (tyJ41 j) := tyJ41_ok
theorem np_J41 : ∀ a, a < 4 → ∀ b, b < 4 → a ≠ b → (TJ41 a).2.1 ≠ (TJ41 b).2.1 ∨ ((TJ41 a).2.2.2 = true ∧ (TJ41 b).2.2.2 = true ∧ (TJ41 a).1 ≠ (TJ41 b).1) := fun a ha b hb h => Or.inl (nmJ41 a ha b hb h)
theorem fd_q556_14 : kx_Fd "java/util/AbstractList" 7 14 0 (.int) false false := ⟨_, TJ2, 3, tyJ2, "java/util/AbstractList", rfl, by decide, in_J2, ty_J2, rfl, np_J2, rfl, (fun h => nomatch h), Or.inl rfl, Or.inl ⟨rfl, q556⟩⟩
theorem fr_q556_14 : kx_Fr' "java/util/AbstractList" 7 14 0 (.int) false := kx_Fd.rd fd_q556_14
theorem fd_q843_17 : kx_Fd "java/lang/Integer" 205 17 0 (.int) true false := ⟨_, TJ17, 1, tyJ17, "java/lang/Integer", rfl, by decide, in_J17, ty_J17, rfl, np_J17, rfl, (fun _ => rfl), Or.inl rfl, Or.inl ⟨rfl, q843⟩⟩
theorem fr_q843_17 : kx_Fr' "java/lang/Integer" 205 17 0 (.int) false := kx_Fd.rd fd_q843_17
theorem fd_q576_18 : kx_Fd "java/util/TreeMap" 16 18 2 (.object "java/util/Comparator") true false := ⟨_, TJ19, 9, tyJ19, "java/util/TreeMap", rfl, by decide, in_J19, ty_J19, rfl, np_J19, rfl, (fun _ => rfl), Or.inl rfl, Or.inl ⟨rfl, q576⟩⟩
theorem fr_q576_18 : kx_Fr' "java/util/TreeMap" 16 18 2 (.object "java/util/Comparator") false := kx_Fd.rd fd_q576_18
theorem fd_q577_18 : kx_Fd "java/util/TreeMap" 101 18 3 (.object "java/util/TreeMap$Entry") false false := ⟨_, TJ19, 9, tyJ19, "java/util/TreeMap", rfl, by decide, in_J19, ty_J19, rfl, np_J19, rfl, (fun h => nomatch h), Or.inl rfl, Or.inl ⟨rfl, q577⟩⟩
theorem fr_q577_18 : kx_Fr' "java/util/TreeMap" 101 18 3 (.object "java/util/TreeMap$Entry") false := kx_Fd.rd fd_q577_18
theorem fd_q578_18 : kx_Fd "java/util/TreeMap" 7 18 4 (.int) false false := ⟨_, TJ19, 9, tyJ19, "java/util/TreeMap", rfl, by decide, in_J19, ty_J19, rfl, np_J19, rfl, (fun h => nomatch h), Or.inl rfl, Or.inl ⟨rfl, q578⟩⟩
theorem fr_q578_18 : kx_Fr' "java/util/TreeMap" 7 18 4 (.int) false := kx_Fd.rd fd_q578_18
theorem fd_q579_18 : kx_Fd "java/util/TreeMap" 13 18 5 (.int) false false := ⟨_, TJ19, 9, tyJ19, "java/util/TreeMap", rfl, by decide, in_J19, ty_J19, rfl, np_J19, rfl, (fun h => nomatch h), Or.inl rfl, Or.inl ⟨rfl, q579⟩⟩
theorem fr_q579_18 : kx_Fr' "java/util/TreeMap" 13 18 5 (.int) false := kx_Fd.rd fd_q579_18
theorem fd_q581_18 : kx_Fd "java/util/TreeMap" 188 18 6 (.object "java/util/TreeMap$EntrySet") false false := ⟨_, TJ19, 9, tyJ19, "java/util/TreeMap", rfl, by decide, in_J19, ty_J19, rfl, np_J19, rfl, (fun h => nomatch h), Or.inl rfl, Or.inl ⟨rfl, q581⟩⟩
theorem fr_q581_18 : kx_Fr' "java/util/TreeMap" 188 18 6 (.object "java/util/TreeMap$EntrySet") false := kx_Fd.rd fd_q581_18
theorem fd_q582_18 : kx_Fd "java/util/TreeMap" 233 18 1 (.object "java/util/Collection") false false := ⟨_, TJ19, 9, tyJ19, "java/util/TreeMap", rfl, by decide, in_J19, ty_J19, rfl, np_J19, rfl, (fun h => nomatch h), Or.inr ⟨lw_all_tbl q583, q583⟩, Or.inl ⟨rfl, q582⟩⟩
theorem fr_q582_18 : kx_Fr' "java/util/TreeMap" 233 18 1 (.object "java/util/Collection") false := kx_Fd.rd fd_q582_18
theorem fd_q1082_19 : kx_Fd "java/util/TreeMap" 105 19 0 (.object "java/lang/Object") false false := ⟨_, TJ22, 6, tyJ22, "java/util/TreeMap$Entry", rfl, by decide, in_J22, ty_J22, rfl, np_J22, rfl, (fun h => nomatch h), Or.inl rfl, Or.inl ⟨rfl, q1082⟩⟩
theorem fr_q1082_19 : kx_Fr' "java/util/TreeMap" 105 19 0 (.object "java/lang/Object") false := kx_Fd.rd fd_q1082_19
theorem fd_q1085_19 : kx_Fd "java/util/TreeMap" 58 19 1 (.object "java/lang/Object") false false := ⟨_, TJ22, 6, tyJ22, "java/util/TreeMap$Entry", rfl, by decide, in_J22, ty_J22, rfl, np_J22, rfl, (fun h => nomatch h), Or.inl rfl, Or.inl ⟨rfl, q1085⟩⟩
theorem fr_q1085_19 : kx_Fr' "java/util/TreeMap" 58 19 1 (.object "java/lang/Object") false := kx_Fd.rd fd_q1085_19
theorem fd_q1086_19 : kx_Fd "java/util/TreeMap" 111 19 2 (.object "java/util/TreeMap$Entry") false false := ⟨_, TJ22, 6, tyJ22, "java/util/TreeMap$Entry", rfl, by decide, in_J22, ty_J22, rfl, np_J22, rfl, (fun h => nomatch h), Or.inl rfl, Or.inl ⟨rfl, q1086⟩⟩
theorem fr_q1086_19 : kx_Fr' "java/util/TreeMap" 111 19 2 (.object "java/util/TreeMap$Entry") false := kx_Fd.rd fd_q1086_19
theorem fd_q1087_19 : kx_Fd "java/util/TreeMap" 114 19 3 (.object "java/util/TreeMap$Entry") false false := ⟨_, TJ22, 6, tyJ22, "java/util/TreeMap$Entry", rfl, by decide, in_J22, ty_J22, rfl, np_J22, rfl, (fun h => nomatch h), Or.inl rfl, Or.inl ⟨rfl, q1087⟩⟩
theorem fr_q1087_19 : kx_Fr' "java/util/TreeMap" 114 19 3 (.object "java/util/TreeMap$Entry") false := kx_Fd.rd fd_q1087_19
theorem fd_q1089_19 : kx_Fd "java/util/TreeMap" 124 19 4 (.object "java/util/TreeMap$Entry") false false := ⟨_, TJ22, 6, tyJ22, "java/util/TreeMap$Entry", rfl, by decide, in_J22, ty_J22, rfl, np_J22, rfl, (fun h => nomatch h), Or.inl rfl, Or.inl ⟨rfl, q1089⟩⟩
theorem fr_q1089_19 : kx_Fr' "java/util/TreeMap" 124 19 4 (.object "java/util/TreeMap$Entry") false := kx_Fd.rd fd_q1089_19
theorem fd_q1091_19 : kx_Fd "java/util/TreeMap" 290 19 5 (.boolean) false false := ⟨_, TJ22, 6, tyJ22, "java/util/TreeMap$Entry", rfl, by decide, in_J22, ty_J22, rfl, np_J22, rfl, (fun h => nomatch h), Or.inl rfl, Or.inl ⟨rfl, q1091⟩⟩
theorem fr_q1091_19 : kx_Fr' "java/util/TreeMap" 290 19 5 (.boolean) false := kx_Fd.rd fd_q1091_19
theorem fd_q552_14 : kx_Fd "java/util/ArrayList" 9 14 1 (.array (.object "java/lang/Object")) false false := ⟨_, TJ2, 3, tyJ2, "java/util/ArrayList", rfl, by decide, in_J2, ty_J2, rfl, np_J2, rfl, (fun h => nomatch h), Or.inl rfl, Or.inl ⟨rfl, q552⟩⟩
theorem fr_q552_14 : kx_Fr' "java/util/ArrayList" 9 14 1 (.array (.object "java/lang/Object")) false := kx_Fd.rd fd_q552_14
theorem fd_q555_14 : kx_Fd "java/util/ArrayList" 48 14 2 (.int) false false := ⟨_, TJ2, 3, tyJ2, "java/util/ArrayList", rfl, by decide, in_J2, ty_J2, rfl, np_J2, rfl, (fun h => nomatch h), Or.inl rfl, Or.inl ⟨rfl, q555⟩⟩
theorem fr_q555_14 : kx_Fr' "java/util/ArrayList" 48 14 2 (.int) false := kx_Fd.rd fd_q555_14
theorem fd_q559_14 : kx_Fd "java/util/ArrayList" 63 14 0 (.int) false false := ⟨_, TJ2, 3, tyJ2, "java/util/ArrayList", rfl, by decide, in_J2, ty_J2, rfl, np_J2, rfl, (fun h => nomatch h), Or.inr ⟨lw_all_tbl q558, q558⟩, Or.inl ⟨rfl, q559⟩⟩
theorem fr_q559_14 : kx_Fr' "java/util/ArrayList" 63 14 0 (.int) false := kx_Fd.rd fd_q559_14
theorem fd_q1081_19 : kx_Fd "java/util/TreeMap$Entry" 15 19 0 (.object "java/lang/Object") false false := ⟨_, TJ22, 6, tyJ22, "java/util/TreeMap$Entry", rfl, by decide, in_J22, ty_J22, rfl, np_J22, rfl, (fun h => nomatch h), Or.inl rfl, Or.inl ⟨rfl, q1081⟩⟩
theorem fr_q1081_19 : kx_Fr' "java/util/TreeMap$Entry" 15 19 0 (.object "java/lang/Object") false := kx_Fd.rd fd_q1081_19
theorem fd_q1083_19 : kx_Fd "java/util/TreeMap$Entry" 19 19 1 (.object "java/lang/Object") false false := ⟨_, TJ22, 6, tyJ22, "java/util/TreeMap$Entry", rfl, by decide, in_J22, ty_J22, rfl, np_J22, rfl, (fun h => nomatch h), Or.inl rfl, Or.inl ⟨rfl, q1083⟩⟩
theorem fr_q1083_19 : kx_Fr' "java/util/TreeMap$Entry" 19 19 1 (.object "java/lang/Object") false := kx_Fd.rd fd_q1083_19
theorem fd_q1088_19 : kx_Fd "java/util/TreeMap$Entry" 22 19 4 (.object "java/util/TreeMap$Entry") false false := ⟨_, TJ22, 6, tyJ22, "java/util/TreeMap$Entry", rfl, by decide, in_J22, ty_J22, rfl, np_J22, rfl, (fun h => nomatch h), Or.inl rfl, Or.inl ⟨rfl, q1088⟩⟩
theorem fr_q1088_19 : kx_Fr' "java/util/TreeMap$Entry" 22 19 4 (.object "java/util/TreeMap$Entry") false := kx_Fd.rd fd_q1088_19
theorem fd_q1090_19 : kx_Fd "java/util/TreeMap$Entry" 9 19 5 (.boolean) false false := ⟨_, TJ22, 6, tyJ22, "java/util/TreeMap$Entry", rfl, by decide, in_J22, ty_J22, rfl, np_J22, rfl, (fun h => nomatch h), Or.inl rfl, Or.inl ⟨rfl, q1090⟩⟩
theorem fr_q1090_19 : kx_Fr' "java/util/TreeMap$Entry" 9 19 5 (.boolean) false := kx_Fd.rd fd_q1090_19
theorem fd_q1189_20 : kx_Fd "java/util/ArrayDeque" 3 20 0 (.array (.object "java/lang/Object")) false false := ⟨_, TJ24, 3, tyJ24, "java/util/ArrayDeque", rfl, by decide, in_J24, ty_J24, rfl, np_J24, rfl, (fun h => nomatch h), Or.inl rfl, Or.inl ⟨rfl, q1189⟩⟩
theorem fr_q1189_20 : kx_Fr' "java/util/ArrayDeque" 3 20 0 (.array (.object "java/lang/Object")) false := kx_Fd.rd fd_q1189_20
theorem fd_q1192_20 : kx_Fd "java/util/ArrayDeque" 24 20 1 (.int) false false := ⟨_, TJ24, 3, tyJ24, "java/util/ArrayDeque", rfl, by decide, in_J24, ty_J24, rfl, np_J24, rfl, (fun h => nomatch h), Or.inl rfl, Or.inl ⟨rfl, q1192⟩⟩
theorem fr_q1192_20 : kx_Fr' "java/util/ArrayDeque" 24 20 1 (.int) false := kx_Fd.rd fd_q1192_20
theorem fd_q1193_20 : kx_Fd "java/util/ArrayDeque" 20 20 2 (.int) false false := ⟨_, TJ24, 3, tyJ24, "java/util/ArrayDeque", rfl, by decide, in_J24, ty_J24, rfl, np_J24, rfl, (fun h => nomatch h), Or.inl rfl, Or.inl ⟨rfl, q1193⟩⟩
theorem fr_q1193_20 : kx_Fr' "java/util/ArrayDeque" 20 20 2 (.int) false := kx_Fd.rd fd_q1193_20
theorem fd_q512_5 : kx_Fd "java/lang/Throwable" 198 5 4 (.object "java/lang/Object") false false := ⟨_, TX7, 8, tyX7, "java/lang/Throwable", rfl, by decide, in_X7, ty_X7, rfl, np_X7, rfl, (fun h => nomatch h), Or.inl rfl, Or.inl ⟨rfl, q512⟩⟩
theorem fr_q512_5 : kx_Fr' "java/lang/Throwable" 198 5 4 (.object "java/lang/Object") false := kx_Fd.rd fd_q512_5
theorem fd_q513_5 : kx_Fd "java/lang/Throwable" 31 5 3 (.object "java/lang/String") false false := ⟨_, TX7, 8, tyX7, "java/lang/Throwable", rfl, by decide, in_X7, ty_X7, rfl, np_X7, rfl, (fun h => nomatch h), Or.inl rfl, Or.inl ⟨rfl, q513⟩⟩
theorem fr_q513_5 : kx_Fr' "java/lang/Throwable" 31 5 3 (.object "java/lang/String") false := kx_Fd.rd fd_q513_5
theorem fd_q514_5 : kx_Fd "java/lang/Throwable" 7 5 0 (.object "java/lang/Throwable") false false := ⟨_, TX7, 8, tyX7, "java/lang/Throwable", rfl, by decide, in_X7, ty_X7, rfl, np_X7, rfl, (fun h => nomatch h), Or.inl rfl, Or.inl ⟨rfl, q514⟩⟩
theorem fr_q514_5 : kx_Fr' "java/lang/Throwable" 7 5 0 (.object "java/lang/Throwable") false := kx_Fd.rd fd_q514_5
theorem fd_q515_5 : kx_Fd "java/lang/Throwable" 17 5 1 (.array (.object "java/lang/StackTraceElement")) false false := ⟨_, TX7, 8, tyX7, "java/lang/Throwable", rfl, by decide, in_X7, ty_X7, rfl, np_X7, rfl, (fun h => nomatch h), Or.inl rfl, Or.inl ⟨rfl, q515⟩⟩
theorem fr_q515_5 : kx_Fr' "java/lang/Throwable" 17 5 1 (.array (.object "java/lang/StackTraceElement")) false := kx_Fd.rd fd_q515_5
theorem fd_q516_5 : kx_Fd "java/lang/Throwable" 24 5 2 (.object "java/util/List") false false := ⟨_, TX7, 8, tyX7, "java/lang/Throwable", rfl, by decide, in_X7, ty_X7, rfl, np_X7, rfl, (fun h => nomatch h), Or.inl rfl, Or.inl ⟨rfl, q516⟩⟩
theorem fr_q516_5 : kx_Fr' "java/lang/Throwable" 24 5 2 (.object "java/util/List") false := kx_Fd.rd fd_q516_5
theorem fd_q553_14 : kx_Fd "java/util/ArrayList$Itr" 37 14 1 (.array (.object "java/lang/Object")) false false := ⟨_, TJ2, 3, tyJ2, "java/util/ArrayList", rfl, by decide, in_J2, ty_J2, rfl, np_J2, rfl, (fun h => nomatch h), Or.inl rfl, Or.inl ⟨rfl, q553⟩⟩
theorem fr_q553_14 : kx_Fr' "java/util/ArrayList$Itr" 37 14 1 (.array (.object "java/lang/Object")) false := kx_Fd.rd fd_q553_14
theorem fd_q557_14 : kx_Fd "java/util/ArrayList$Itr" 17 14 0 (.int) false false := ⟨_, TJ2, 3, tyJ2, "java/util/ArrayList", rfl, by decide, in_J2, ty_J2, rfl, np_J2, rfl, (fun h => nomatch h), Or.inr ⟨lw_all_tbl q558, q558⟩, Or.inl ⟨rfl, q557⟩⟩
theorem fr_q557_14 : kx_Fr' "java/util/ArrayList$Itr" 17 14 0 (.int) false := kx_Fd.rd fd_q557_14
theorem fd_q2133_21 : kx_Fd "java/util/ArrayList$Itr" 25 21 0 (.int) false false := ⟨_, TJ31, 4, tyJ31, "java/util/ArrayList$Itr", rfl, by decide, in_J31, ty_J31, rfl, np_J31, rfl, (fun h => nomatch h), Or.inl rfl, Or.inl ⟨rfl, q2133⟩⟩
theorem fr_q2133_21 : kx_Fr' "java/util/ArrayList$Itr" 25 21 0 (.int) false := kx_Fd.rd fd_q2133_21
theorem fd_q2134_21 : kx_Fd "java/util/ArrayList$Itr" 13 21 1 (.int) false false := ⟨_, TJ31, 4, tyJ31, "java/util/ArrayList$Itr", rfl, by decide, in_J31, ty_J31, rfl, np_J31, rfl, (fun h => nomatch h), Or.inl rfl, Or.inl ⟨rfl, q2134⟩⟩
theorem fr_q2134_21 : kx_Fr' "java/util/ArrayList$Itr" 13 21 1 (.int) false := kx_Fd.rd fd_q2134_21
theorem fd_q2135_21 : kx_Fd "java/util/ArrayList$Itr" 22 21 2 (.int) false false := ⟨_, TJ31, 4, tyJ31, "java/util/ArrayList$Itr", rfl, by decide, in_J31, ty_J31, rfl, np_J31, rfl, (fun h => nomatch h), Or.inl rfl, Or.inl ⟨rfl, q2135⟩⟩
theorem fr_q2135_21 : kx_Fr' "java/util/ArrayList$Itr" 22 21 2 (.int) false := kx_Fd.rd fd_q2135_21
theorem fd_q2136_21 : kx_Fd "java/util/ArrayList$Itr" 1 21 3 (.object "java/util/ArrayList") true false := ⟨_, TJ31, 4, tyJ31, "java/util/ArrayList$Itr", rfl, by decide, in_J31, ty_J31, rfl, np_J31, rfl, (fun _ => rfl), Or.inl rfl, Or.inl ⟨rfl, q2136⟩⟩
theorem fr_q2136_21 : kx_Fr' "java/util/ArrayList$Itr" 1 21 3 (.object "java/util/ArrayList") false := kx_Fd.rd fd_q2136_21
theorem fd_q2062_22 : kx_Fd "java/util/PriorityQueue" 17 22 0 (.array (.object "java/lang/Object")) false false := ⟨_, TJ35, 4, tyJ35, "java/util/PriorityQueue", rfl, by decide, in_J35, ty_J35, rfl, np_J35, rfl, (fun h => nomatch h), Or.inl rfl, Or.inl ⟨rfl, q2062⟩⟩
theorem fr_q2062_22 : kx_Fr' "java/util/PriorityQueue" 17 22 0 (.array (.object "java/lang/Object")) false := kx_Fd.rd fd_q2062_22
theorem fd_q2064_22 : kx_Fd "java/util/PriorityQueue" 58 22 1 (.int) false false := ⟨_, TJ35, 4, tyJ35, "java/util/PriorityQueue", rfl, by decide, in_J35, ty_J35, rfl, np_J35, rfl, (fun h => nomatch h), Or.inl rfl, Or.inl ⟨rfl, q2064⟩⟩
theorem fr_q2064_22 : kx_Fr' "java/util/PriorityQueue" 58 22 1 (.int) false := kx_Fd.rd fd_q2064_22
theorem fd_q2065_22 : kx_Fd "java/util/PriorityQueue" 21 22 2 (.object "java/util/Comparator") true false := ⟨_, TJ35, 4, tyJ35, "java/util/PriorityQueue", rfl, by decide, in_J35, ty_J35, rfl, np_J35, rfl, (fun _ => rfl), Or.inl rfl, Or.inl ⟨rfl, q2065⟩⟩
theorem fr_q2065_22 : kx_Fr' "java/util/PriorityQueue" 21 22 2 (.object "java/util/Comparator") false := kx_Fd.rd fd_q2065_22
theorem fd_q2067_22 : kx_Fd "java/util/PriorityQueue" 93 22 3 (.int) false false := ⟨_, TJ35, 4, tyJ35, "java/util/PriorityQueue", rfl, by decide, in_J35, ty_J35, rfl, np_J35, rfl, (fun h => nomatch h), Or.inl rfl, Or.inl ⟨rfl, q2067⟩⟩
theorem fr_q2067_22 : kx_Fr' "java/util/PriorityQueue" 93 22 3 (.int) false := kx_Fd.rd fd_q2067_22
theorem fd_q2087_23 : kx_Fd "java/util/TreeMap$Values" 1 23 0 (.object "java/util/TreeMap") true false := ⟨_, TJ36, 1, tyJ36, "java/util/TreeMap$Values", rfl, by decide, in_J36, ty_J36, rfl, np_J36, rfl, (fun _ => rfl), Or.inl rfl, Or.inl ⟨rfl, q2087⟩⟩
theorem fr_q2087_23 : kx_Fr' "java/util/TreeMap$Values" 1 23 0 (.object "java/util/TreeMap") false := kx_Fd.rd fd_q2087_23
theorem fd_q1190_20 : kx_Fd "java/util/ArrayDeque$DeqIterator" 35 20 0 (.array (.object "java/lang/Object")) false false := ⟨_, TJ24, 3, tyJ24, "java/util/ArrayDeque", rfl, by decide, in_J24, ty_J24, rfl, np_J24, rfl, (fun h => nomatch h), Or.inl rfl, Or.inl ⟨rfl, q1190⟩⟩
theorem fr_q1190_20 : kx_Fr' "java/util/ArrayDeque$DeqIterator" 35 20 0 (.array (.object "java/lang/Object")) false := kx_Fd.rd fd_q1190_20
theorem fd_q1191_20 : kx_Fd "java/util/ArrayDeque$DeqIterator" 26 20 1 (.int) false false := ⟨_, TJ24, 3, tyJ24, "java/util/ArrayDeque", rfl, by decide, in_J24, ty_J24, rfl, np_J24, rfl, (fun h => nomatch h), Or.inl rfl, Or.inl ⟨rfl, q1191⟩⟩
theorem fr_q1191_20 : kx_Fr' "java/util/ArrayDeque$DeqIterator" 26 20 1 (.int) false := kx_Fd.rd fd_q1191_20
theorem fd_q2061_22 : kx_Fd "java/util/PriorityQueue$Itr" 44 22 0 (.array (.object "java/lang/Object")) false false := ⟨_, TJ35, 4, tyJ35, "java/util/PriorityQueue", rfl, by decide, in_J35, ty_J35, rfl, np_J35, rfl, (fun h => nomatch h), Or.inl rfl, Or.inl ⟨rfl, q2061⟩⟩
theorem fr_q2061_22 : kx_Fr' "java/util/PriorityQueue$Itr" 44 22 0 (.array (.object "java/lang/Object")) false := kx_Fd.rd fd_q2061_22
theorem fd_q2063_22 : kx_Fd "java/util/PriorityQueue$Itr" 28 22 1 (.int) false false := ⟨_, TJ35, 4, tyJ35, "java/util/PriorityQueue", rfl, by decide, in_J35, ty_J35, rfl, np_J35, rfl, (fun h => nomatch h), Or.inl rfl, Or.inl ⟨rfl, q2063⟩⟩
theorem fr_q2063_22 : kx_Fr' "java/util/PriorityQueue$Itr" 28 22 1 (.int) false := kx_Fd.rd fd_q2063_22
theorem fd_q2066_22 : kx_Fd "java/util/PriorityQueue$Itr" 17 22 3 (.int) false false := ⟨_, TJ35, 4, tyJ35, "java/util/PriorityQueue", rfl, by decide, in_J35, ty_J35, rfl, np_J35, rfl, (fun h => nomatch h), Or.inl rfl, Or.inl ⟨rfl, q2066⟩⟩
theorem fr_q2066_22 : kx_Fr' "java/util/PriorityQueue$Itr" 17 22 3 (.int) false := kx_Fd.rd fd_q2066_22
theorem fd_q2196_24 : kx_Fd "java/util/TreeMap$PrivateEntryIterator" 26 24 0 (.object "java/util/TreeMap$Entry") false false := ⟨_, TJ41, 4, tyJ41, "java/util/TreeMap$PrivateEntryIterator", rfl, by decide, in_J41, ty_J41, rfl, np_J41, rfl, (fun h => nomatch h), Or.inl rfl, Or.inl ⟨rfl, q2196⟩⟩
theorem fr_q2196_24 : kx_Fr' "java/util/TreeMap$PrivateEntryIterator" 26 24 0 (.object "java/util/TreeMap$Entry") false := kx_Fd.rd fd_q2196_24
theorem fd_q2197_24 : kx_Fd "java/util/TreeMap$PrivateEntryIterator" 22 24 1 (.object "java/util/TreeMap$Entry") false false := ⟨_, TJ41, 4, tyJ41, "java/util/TreeMap$PrivateEntryIterator", rfl, by decide, in_J41, ty_J41, rfl, np_J41, rfl, (fun h => nomatch h), Or.inl rfl, Or.inl ⟨rfl, q2197⟩⟩
theorem fr_q2197_24 : kx_Fr' "java/util/TreeMap$PrivateEntryIterator" 22 24 1 (.object "java/util/TreeMap$Entry") false := kx_Fd.rd fd_q2197_24
theorem fd_q2198_24 : kx_Fd "java/util/TreeMap$PrivateEntryIterator" 19 24 2 (.int) false false := ⟨_, TJ41, 4, tyJ41, "java/util/TreeMap$PrivateEntryIterator", rfl, by decide, in_J41, ty_J41, rfl, np_J41, rfl, (fun h => nomatch h), Or.inl rfl, Or.inl ⟨rfl, q2198⟩⟩
theorem fr_q2198_24 : kx_Fr' "java/util/TreeMap$PrivateEntryIterator" 19 24 2 (.int) false := kx_Fd.rd fd_q2198_24
theorem fd_q2199_24 : kx_Fd "java/util/TreeMap$PrivateEntryIterator" 1 24 3 (.object "java/util/TreeMap") true false := ⟨_, TJ41, 4, tyJ41, "java/util/TreeMap$PrivateEntryIterator", rfl, by decide, in_J41, ty_J41, rfl, np_J41, rfl, (fun _ => rfl), Or.inl rfl, Or.inl ⟨rfl, q2199⟩⟩
theorem fr_q2199_24 : kx_Fr' "java/util/TreeMap$PrivateEntryIterator" 1 24 3 (.object "java/util/TreeMap") false := kx_Fd.rd fd_q2199_24
theorem fd_q1084_19 : kx_Fd "java/util/TreeMap$ValueIterator" 13 19 1 (.object "java/lang/Object") false false := ⟨_, TJ22, 6, tyJ22, "java/util/TreeMap$Entry", rfl, by decide, in_J22, ty_J22, rfl, np_J22, rfl, (fun h => nomatch h), Or.inl rfl, Or.inl ⟨rfl, q1084⟩⟩
theorem fr_q1084_19 : kx_Fr' "java/util/TreeMap$ValueIterator" 13 19 1 (.object "java/lang/Object") false := kx_Fd.rd fd_q1084_19
theorem fd_q296_15 : kx_Fd "java/lang/AbstractStringBuilder" 15 15 0 (.array .byte) false false := ⟨_, TJ8, 4, tyJ8, "java/lang/AbstractStringBuilder", rfl, by decide, in_J8, ty_J8, rfl, np_J8, rfl, (fun h => nomatch h), Or.inl rfl, Or.inl ⟨rfl, q296⟩⟩
theorem fr_q296_15 : kx_Fr' "java/lang/AbstractStringBuilder" 15 15 0 (.array .byte) false := kx_Fd.rd fd_q296_15
theorem fd_q297_15 : kx_Fd "java/lang/AbstractStringBuilder" 22 15 1 (.byte) false false := ⟨_, TJ8, 4, tyJ8, "java/lang/AbstractStringBuilder", rfl, by decide, in_J8, ty_J8, rfl, np_J8, rfl, (fun h => nomatch h), Or.inl rfl, Or.inl ⟨rfl, q297⟩⟩
theorem fr_q297_15 : kx_Fr' "java/lang/AbstractStringBuilder" 22 15 1 (.byte) false := kx_Fd.rd fd_q297_15
theorem fd_q298_15 : kx_Fd "java/lang/AbstractStringBuilder" 73 15 2 (.boolean) false false := ⟨_, TJ8, 4, tyJ8, "java/lang/AbstractStringBuilder", rfl, by decide, in_J8, ty_J8, rfl, np_J8, rfl, (fun h => nomatch h), Or.inl rfl, Or.inl ⟨rfl, q298⟩⟩
theorem fr_q298_15 : kx_Fr' "java/lang/AbstractStringBuilder" 73 15 2 (.boolean) false := kx_Fd.rd fd_q298_15
theorem fd_q300_15 : kx_Fd "java/lang/AbstractStringBuilder" 79 15 3 (.int) false false := ⟨_, TJ8, 4, tyJ8, "java/lang/AbstractStringBuilder", rfl, by decide, in_J8, ty_J8, rfl, np_J8, rfl, (fun h => nomatch h), Or.inl rfl, Or.inl ⟨rfl, q300⟩⟩
theorem fr_q300_15 : kx_Fr' "java/lang/AbstractStringBuilder" 79 15 3 (.int) false := kx_Fd.rd fd_q300_15
theorem fd_q299_15 : kx_Fd "java/lang/String" 1048 15 2 (.boolean) false false := ⟨_, TJ8, 4, tyJ8, "java/lang/AbstractStringBuilder", rfl, by decide, in_J8, ty_J8, rfl, np_J8, rfl, (fun h => nomatch h), Or.inl rfl, Or.inl ⟨rfl, q299⟩⟩
theorem fr_q299_15 : kx_Fr' "java/lang/String" 1048 15 2 (.boolean) false := kx_Fd.rd fd_q299_15
theorem fd_q538_16 : kx_Fd "java/lang/String" 9 16 0 (.array .byte) true false := ⟨_, TJ9, 4, tyJ9, "java/lang/String", rfl, by decide, in_J9, ty_J9, rfl, np_J9, rfl, (fun _ => rfl), Or.inl rfl, Or.inl ⟨rfl, q538⟩⟩
theorem fr_q538_16 : kx_Fr' "java/lang/String" 9 16 0 (.array .byte) false := kx_Fd.rd fd_q538_16
theorem fd_q539_16 : kx_Fd "java/lang/String" 15 16 1 (.byte) true false := ⟨_, TJ9, 4, tyJ9, "java/lang/String", rfl, by decide, in_J9, ty_J9, rfl, np_J9, rfl, (fun _ => rfl), Or.inl rfl, Or.inl ⟨rfl, q539⟩⟩
theorem fr_q539_16 : kx_Fr' "java/lang/String" 15 16 1 (.byte) false := kx_Fd.rd fd_q539_16
theorem fd_q540_16 : kx_Fd "java/lang/String" 19 16 2 (.int) false false := ⟨_, TJ9, 4, tyJ9, "java/lang/String", rfl, by decide, in_J9, ty_J9, rfl, np_J9, rfl, (fun h => nomatch h), Or.inl rfl, Or.inl ⟨rfl, q540⟩⟩
theorem fr_q540_16 : kx_Fr' "java/lang/String" 19 16 2 (.int) false := kx_Fd.rd fd_q540_16
theorem fd_q541_16 : kx_Fd "java/lang/String" 23 16 3 (.boolean) false false := ⟨_, TJ9, 4, tyJ9, "java/lang/String", rfl, by decide, in_J9, ty_J9, rfl, np_J9, rfl, (fun h => nomatch h), Or.inl rfl, Or.inl ⟨rfl, q541⟩⟩
theorem fr_q541_16 : kx_Fr' "java/lang/String" 23 16 3 (.boolean) false := kx_Fd.rd fd_q541_16
theorem fd_q1204_0 : kx_Fd "RoseProverbs" 60 0 0 (.array .byte) true false := ⟨_, TX1, 9, tyX1, "RoseProverbs", rfl, by decide, in_X1, ty_X1, rfl, np_X1, rfl, (fun _ => rfl), Or.inl rfl, Or.inl ⟨rfl, q1204⟩⟩
theorem fr_q1204_0 : kx_Fr' "RoseProverbs" 60 0 0 (.array .byte) false := kx_Fd.rd fd_q1204_0
theorem fd_q1206_0 : kx_Fd "RoseProverbs" 98 0 1 (.int) false false := ⟨_, TX1, 9, tyX1, "RoseProverbs", rfl, by decide, in_X1, ty_X1, rfl, np_X1, rfl, (fun h => nomatch h), Or.inl rfl, Or.inl ⟨rfl, q1206⟩⟩
theorem fr_q1206_0 : kx_Fr' "RoseProverbs" 98 0 1 (.int) false := kx_Fd.rd fd_q1206_0
theorem fd_q1207_0 : kx_Fd "RoseProverbs" 109 0 2 (.int) false false := ⟨_, TX1, 9, tyX1, "RoseProverbs", rfl, by decide, in_X1, ty_X1, rfl, np_X1, rfl, (fun h => nomatch h), Or.inl rfl, Or.inl ⟨rfl, q1207⟩⟩
theorem fr_q1207_0 : kx_Fr' "RoseProverbs" 109 0 2 (.int) false := kx_Fd.rd fd_q1207_0
theorem fd_q1208_0 : kx_Fd "RoseProverbs" 64 0 3 (.int) false false := ⟨_, TX1, 9, tyX1, "RoseProverbs", rfl, by decide, in_X1, ty_X1, rfl, np_X1, rfl, (fun h => nomatch h), Or.inl rfl, Or.inl ⟨rfl, q1208⟩⟩
theorem fr_q1208_0 : kx_Fr' "RoseProverbs" 64 0 3 (.int) false := kx_Fd.rd fd_q1208_0
theorem fd_q1209_0 : kx_Fd "RoseProverbs" 72 0 4 (.object "RoseProverbs$Rose") false false := ⟨_, TX1, 9, tyX1, "RoseProverbs", rfl, by decide, in_X1, ty_X1, rfl, np_X1, rfl, (fun h => nomatch h), Or.inl rfl, Or.inl ⟨rfl, q1209⟩⟩
theorem fr_q1209_0 : kx_Fr' "RoseProverbs" 72 0 4 (.object "RoseProverbs$Rose") false := kx_Fd.rd fd_q1209_0
theorem fd_q1210_0 : kx_Fd "RoseProverbs" 134 0 5 (.object "RoseProverbs$Rose") false false := ⟨_, TX1, 9, tyX1, "RoseProverbs", rfl, by decide, in_X1, ty_X1, rfl, np_X1, rfl, (fun h => nomatch h), Or.inl rfl, Or.inl ⟨rfl, q1210⟩⟩
theorem fr_q1210_0 : kx_Fr' "RoseProverbs" 134 0 5 (.object "RoseProverbs$Rose") false := kx_Fd.rd fd_q1210_0
theorem fd_q1211_0 : kx_Fd "RoseProverbs" 79 0 6 (.object "RoseProverbs$Rose") false false := ⟨_, TX1, 9, tyX1, "RoseProverbs", rfl, by decide, in_X1, ty_X1, rfl, np_X1, rfl, (fun h => nomatch h), Or.inl rfl, Or.inl ⟨rfl, q1211⟩⟩
theorem fr_q1211_0 : kx_Fr' "RoseProverbs" 79 0 6 (.object "RoseProverbs$Rose") false := kx_Fd.rd fd_q1211_0
theorem fd_q1212_0 : kx_Fd "RoseProverbs" 85 0 7 (.object "java/util/ArrayDeque") true false := ⟨_, TX1, 9, tyX1, "RoseProverbs", rfl, by decide, in_X1, ty_X1, rfl, np_X1, rfl, (fun _ => rfl), Or.inl rfl, Or.inl ⟨rfl, q1212⟩⟩
theorem fr_q1212_0 : kx_Fr' "RoseProverbs" 85 0 7 (.object "java/util/ArrayDeque") false := kx_Fd.rd fd_q1212_0
theorem fd_q1213_0 : kx_Fd "RoseProverbs" 92 0 8 (.object "java/lang/StringBuilder") true false := ⟨_, TX1, 9, tyX1, "RoseProverbs", rfl, by decide, in_X1, ty_X1, rfl, np_X1, rfl, (fun _ => rfl), Or.inl rfl, Or.inl ⟨rfl, q1213⟩⟩
theorem fr_q1213_0 : kx_Fr' "RoseProverbs" 92 0 8 (.object "java/lang/StringBuilder") false := kx_Fd.rd fd_q1213_0
theorem fd_q1699_7 : kx_Fd "RoseProverbs$Script$1" 9 7 0 (.int) true false := ⟨_, TX10, 3, tyX10, "RoseProverbs$Script$1", rfl, by decide, in_X10, ty_X10, rfl, np_X10, rfl, (fun _ => rfl), Or.inl rfl, Or.inl ⟨rfl, q1699⟩⟩
theorem fr_q1699_7 : kx_Fr' "RoseProverbs$Script$1" 9 7 0 (.int) false := kx_Fd.rd fd_q1699_7
theorem fd_q1700_7 : kx_Fd "RoseProverbs$Script$1" 13 7 1 (.int) true false := ⟨_, TX10, 3, tyX10, "RoseProverbs$Script$1", rfl, by decide, in_X10, ty_X10, rfl, np_X10, rfl, (fun _ => rfl), Or.inl rfl, Or.inl ⟨rfl, q1700⟩⟩
theorem fr_q1700_7 : kx_Fr' "RoseProverbs$Script$1" 13 7 1 (.int) false := kx_Fd.rd fd_q1700_7
theorem fd_q1701_7 : kx_Fd "RoseProverbs$Script$1" 3 7 2 (.object "RoseProverbs$Script") true false := ⟨_, TX10, 3, tyX10, "RoseProverbs$Script$1", rfl, by decide, in_X10, ty_X10, rfl, np_X10, rfl, (fun _ => rfl), Or.inl rfl, Or.inl ⟨rfl, q1701⟩⟩
theorem fr_q1701_7 : kx_Fr' "RoseProverbs$Script$1" 3 7 2 (.object "RoseProverbs$Script") false := kx_Fd.rd fd_q1701_7
theorem fd_q1722_8 : kx_Fd "RoseProverbs$Script$1Coming" 7 8 0 (.array .int) true false := ⟨_, TX11, 2, tyX11, "RoseProverbs$Script$1Coming", rfl, by decide, in_X11, ty_X11, rfl, np_X11, rfl, (fun _ => rfl), Or.inl rfl, Or.inl ⟨rfl, q1722⟩⟩
theorem fr_q1722_8 : kx_Fr' "RoseProverbs$Script$1Coming" 7 8 0 (.array .int) false := kx_Fd.rd fd_q1722_8
theorem fd_q1723_8 : kx_Fd "RoseProverbs$Script$1Coming" 1 8 1 (.object "RoseProverbs$Script") true false := ⟨_, TX11, 2, tyX11, "RoseProverbs$Script$1Coming", rfl, by decide, in_X11, ty_X11, rfl, np_X11, rfl, (fun _ => rfl), Or.inl rfl, Or.inl ⟨rfl, q1723⟩⟩
theorem fr_q1723_8 : kx_Fr' "RoseProverbs$Script$1Coming" 1 8 1 (.object "RoseProverbs$Script") false := kx_Fd.rd fd_q1723_8
theorem fd_q1739_9 : kx_Fd "RoseProverbs$Script$2" 7 9 0 (.int) true false := ⟨_, TX12, 2, tyX12, "RoseProverbs$Script$2", rfl, by decide, in_X12, ty_X12, rfl, np_X12, rfl, (fun _ => rfl), Or.inl rfl, Or.inl ⟨rfl, q1739⟩⟩
theorem fr_q1739_9 : kx_Fr' "RoseProverbs$Script$2" 7 9 0 (.int) false := kx_Fd.rd fd_q1739_9
theorem fd_q1740_9 : kx_Fd "RoseProverbs$Script$2" 1 9 1 (.object "RoseProverbs$Script") true false := ⟨_, TX12, 2, tyX12, "RoseProverbs$Script$2", rfl, by decide, in_X12, ty_X12, rfl, np_X12, rfl, (fun _ => rfl), Or.inl rfl, Or.inl ⟨rfl, q1740⟩⟩
theorem fr_q1740_9 : kx_Fr' "RoseProverbs$Script$2" 1 9 1 (.object "RoseProverbs$Script") false := kx_Fd.rd fd_q1740_9
theorem fd_q1756_10 : kx_Fd "RoseProverbs$Script$3" 7 10 0 (.int) true false := ⟨_, TX13, 3, tyX13, "RoseProverbs$Script$3", rfl, by decide, in_X13, ty_X13, rfl, np_X13, rfl, (fun _ => rfl), Or.inl rfl, Or.inl ⟨rfl, q1756⟩⟩
theorem fr_q1756_10 : kx_Fr' "RoseProverbs$Script$3" 7 10 0 (.int) false := kx_Fd.rd fd_q1756_10
theorem fd_q1757_10 : kx_Fd "RoseProverbs$Script$3" 11 10 1 (.int) true false := ⟨_, TX13, 3, tyX13, "RoseProverbs$Script$3", rfl, by decide, in_X13, ty_X13, rfl, np_X13, rfl, (fun _ => rfl), Or.inl rfl, Or.inl ⟨rfl, q1757⟩⟩
theorem fr_q1757_10 : kx_Fr' "RoseProverbs$Script$3" 11 10 1 (.int) false := kx_Fd.rd fd_q1757_10
theorem fd_q1758_10 : kx_Fd "RoseProverbs$Script$3" 1 10 2 (.object "RoseProverbs$Script") true false := ⟨_, TX13, 3, tyX13, "RoseProverbs$Script$3", rfl, by decide, in_X13, ty_X13, rfl, np_X13, rfl, (fun _ => rfl), Or.inl rfl, Or.inl ⟨rfl, q1758⟩⟩
theorem fr_q1758_10 : kx_Fr' "RoseProverbs$Script$3" 1 10 2 (.object "RoseProverbs$Script") false := kx_Fd.rd fd_q1758_10
theorem fd_q1777_11 : kx_Fd "RoseProverbs$Script$4" 7 11 0 (.int) true false := ⟨_, TX14, 3, tyX14, "RoseProverbs$Script$4", rfl, by decide, in_X14, ty_X14, rfl, np_X14, rfl, (fun _ => rfl), Or.inl rfl, Or.inl ⟨rfl, q1777⟩⟩
theorem fr_q1777_11 : kx_Fr' "RoseProverbs$Script$4" 7 11 0 (.int) false := kx_Fd.rd fd_q1777_11
theorem fd_q1778_11 : kx_Fd "RoseProverbs$Script$4" 11 11 1 (.int) true false := ⟨_, TX14, 3, tyX14, "RoseProverbs$Script$4", rfl, by decide, in_X14, ty_X14, rfl, np_X14, rfl, (fun _ => rfl), Or.inl rfl, Or.inl ⟨rfl, q1778⟩⟩
theorem fr_q1778_11 : kx_Fr' "RoseProverbs$Script$4" 11 11 1 (.int) false := kx_Fd.rd fd_q1778_11
theorem fd_q1779_11 : kx_Fd "RoseProverbs$Script$4" 1 11 2 (.object "RoseProverbs$Script") true false := ⟨_, TX14, 3, tyX14, "RoseProverbs$Script$4", rfl, by decide, in_X14, ty_X14, rfl, np_X14, rfl, (fun _ => rfl), Or.inl rfl, Or.inl ⟨rfl, q1779⟩⟩
theorem fr_q1779_11 : kx_Fr' "RoseProverbs$Script$4" 1 11 2 (.object "RoseProverbs$Script") false := kx_Fd.rd fd_q1779_11
theorem fd_q2633_12 : kx_Fd "RoseProverbs$Rose$Speakers" 13 12 0 (.int) true false := ⟨_, TX16, 3, tyX16, "RoseProverbs$Rose$Speakers", rfl, by decide, in_X16, ty_X16, rfl, np_X16, rfl, (fun _ => rfl), Or.inl rfl, Or.inl ⟨rfl, q2633⟩⟩
theorem fr_q2633_12 : kx_Fr' "RoseProverbs$Rose$Speakers" 13 12 0 (.int) false := kx_Fd.rd fd_q2633_12
theorem fd_q2635_12 : kx_Fd "RoseProverbs$Rose$Speakers" 17 12 1 (.int) true false := ⟨_, TX16, 3, tyX16, "RoseProverbs$Rose$Speakers", rfl, by decide, in_X16, ty_X16, rfl, np_X16, rfl, (fun _ => rfl), Or.inl rfl, Or.inl ⟨rfl, q2635⟩⟩
theorem fr_q2635_12 : kx_Fr' "RoseProverbs$Rose$Speakers" 17 12 1 (.int) false := kx_Fd.rd fd_q2635_12
theorem fd_q2637_12 : kx_Fd "RoseProverbs$Rose$Speakers" 1 12 2 (.object "RoseProverbs$Rose") true false := ⟨_, TX16, 3, tyX16, "RoseProverbs$Rose$Speakers", rfl, by decide, in_X16, ty_X16, rfl, np_X16, rfl, (fun _ => rfl), Or.inl rfl, Or.inl ⟨rfl, q2637⟩⟩
theorem fr_q2637_12 : kx_Fr' "RoseProverbs$Rose$Speakers" 1 12 2 (.object "RoseProverbs$Rose") false := kx_Fd.rd fd_q2637_12
theorem fr_q2638_12 : kx_Fr' "RoseProverbs$Rose$Speakers$1" 21 12 2 (.object "RoseProverbs$Rose") false := ⟨_, TX16, 3, tyX16, "RoseProverbs$Rose$Speakers", rfl, by decide, in_X16, ty_X16, rfl, np_X16, Or.inl rfl, Or.inl ⟨rfl, q2638⟩⟩
theorem fd_q2655_13 : kx_Fd "RoseProverbs$Rose$Speakers$1" 17 13 0 (.int) false false := ⟨_, TX17, 2, tyX17, "RoseProverbs$Rose$Speakers$1", rfl, by decide, in_X17, ty_X17, rfl, np_X17, rfl, (fun h => nomatch h), Or.inl rfl, Or.inl ⟨rfl, q2655⟩⟩
theorem fr_q2655_13 : kx_Fr' "RoseProverbs$Rose$Speakers$1" 17 13 0 (.int) false := kx_Fd.rd fd_q2655_13
theorem fd_q2656_13 : kx_Fd "RoseProverbs$Rose$Speakers$1" 1 13 1 (.object "RoseProverbs$Rose$Speakers") true false := ⟨_, TX17, 2, tyX17, "RoseProverbs$Rose$Speakers$1", rfl, by decide, in_X17, ty_X17, rfl, np_X17, rfl, (fun _ => rfl), Or.inl rfl, Or.inl ⟨rfl, q2656⟩⟩
theorem fr_q2656_13 : kx_Fr' "RoseProverbs$Rose$Speakers$1" 1 13 1 (.object "RoseProverbs$Rose$Speakers") false := kx_Fd.rd fd_q2656_13
theorem fd_q603_1 : kx_Fd "RoseProverbs$Rose" 14 1 0 (.object "java/util/List") true false := ⟨_, TX2, 14, tyX2, "RoseProverbs$Rose", rfl, by decide, in_X2, ty_X2, rfl, np_X2, rfl, (fun _ => rfl), Or.inl rfl, Or.inl ⟨rfl, q603⟩⟩
theorem fr_q603_1 : kx_Fr' "RoseProverbs$Rose" 14 1 0 (.object "java/util/List") false := kx_Fd.rd fd_q603_1
theorem fd_q609_1 : kx_Fd "RoseProverbs$Rose" 23 1 1 (.object "java/util/TreeMap") true false := ⟨_, TX2, 14, tyX2, "RoseProverbs$Rose", rfl, by decide, in_X2, ty_X2, rfl, np_X2, rfl, (fun _ => rfl), Or.inl rfl, Or.inl ⟨rfl, q609⟩⟩
theorem fr_q609_1 : kx_Fr' "RoseProverbs$Rose" 23 1 1 (.object "java/util/TreeMap") false := kx_Fd.rd fd_q609_1
theorem fd_q611_1 : kx_Fd "RoseProverbs$Rose" 27 1 2 (.array .int) true false := ⟨_, TX2, 14, tyX2, "RoseProverbs$Rose", rfl, by decide, in_X2, ty_X2, rfl, np_X2, rfl, (fun _ => rfl), Or.inl rfl, Or.inl ⟨rfl, q611⟩⟩
theorem fr_q611_1 : kx_Fr' "RoseProverbs$Rose" 27 1 2 (.array .int) false := kx_Fd.rd fd_q611_1
theorem fd_q614_1 : kx_Fd "RoseProverbs$Rose" 31 1 3 (.array .int) true false := ⟨_, TX2, 14, tyX2, "RoseProverbs$Rose", rfl, by decide, in_X2, ty_X2, rfl, np_X2, rfl, (fun _ => rfl), Or.inl rfl, Or.inl ⟨rfl, q614⟩⟩
theorem fr_q614_1 : kx_Fr' "RoseProverbs$Rose" 31 1 3 (.array .int) false := kx_Fd.rd fd_q614_1
theorem fd_q616_1 : kx_Fd "RoseProverbs$Rose" 34 1 4 (.array .int) true false := ⟨_, TX2, 14, tyX2, "RoseProverbs$Rose", rfl, by decide, in_X2, ty_X2, rfl, np_X2, rfl, (fun _ => rfl), Or.inl rfl, Or.inl ⟨rfl, q616⟩⟩
theorem fr_q616_1 : kx_Fr' "RoseProverbs$Rose" 34 1 4 (.array .int) false := kx_Fd.rd fd_q616_1
theorem fd_q618_1 : kx_Fd "RoseProverbs$Rose" 37 1 5 (.array .short) true false := ⟨_, TX2, 14, tyX2, "RoseProverbs$Rose", rfl, by decide, in_X2, ty_X2, rfl, np_X2, rfl, (fun _ => rfl), Or.inl rfl, Or.inl ⟨rfl, q618⟩⟩
theorem fr_q618_1 : kx_Fr' "RoseProverbs$Rose" 37 1 5 (.array .short) false := kx_Fd.rd fd_q618_1
theorem fd_q620_1 : kx_Fd "RoseProverbs$Rose" 41 1 6 (.array .short) true false := ⟨_, TX2, 14, tyX2, "RoseProverbs$Rose", rfl, by decide, in_X2, ty_X2, rfl, np_X2, rfl, (fun _ => rfl), Or.inl rfl, Or.inl ⟨rfl, q620⟩⟩
theorem fr_q620_1 : kx_Fr' "RoseProverbs$Rose" 41 1 6 (.array .short) false := kx_Fd.rd fd_q620_1
theorem fd_q622_1 : kx_Fd "RoseProverbs$Rose" 44 1 7 (.array .byte) true false := ⟨_, TX2, 14, tyX2, "RoseProverbs$Rose", rfl, by decide, in_X2, ty_X2, rfl, np_X2, rfl, (fun _ => rfl), Or.inl rfl, Or.inl ⟨rfl, q622⟩⟩
theorem fr_q622_1 : kx_Fr' "RoseProverbs$Rose" 44 1 7 (.array .byte) false := kx_Fd.rd fd_q622_1
theorem fd_q624_1 : kx_Fd "RoseProverbs$Rose" 48 1 8 (.array .byte) true false := ⟨_, TX2, 14, tyX2, "RoseProverbs$Rose", rfl, by decide, in_X2, ty_X2, rfl, np_X2, rfl, (fun _ => rfl), Or.inl rfl, Or.inl ⟨rfl, q624⟩⟩
theorem fr_q624_1 : kx_Fr' "RoseProverbs$Rose" 48 1 8 (.array .byte) false := kx_Fd.rd fd_q624_1
theorem fd_q626_1 : kx_Fd "RoseProverbs$Rose" 51 1 9 (.array .byte) true false := ⟨_, TX2, 14, tyX2, "RoseProverbs$Rose", rfl, by decide, in_X2, ty_X2, rfl, np_X2, rfl, (fun _ => rfl), Or.inl rfl, Or.inl ⟨rfl, q626⟩⟩
theorem fr_q626_1 : kx_Fr' "RoseProverbs$Rose" 51 1 9 (.array .byte) false := kx_Fd.rd fd_q626_1
theorem fd_q628_1 : kx_Fd "RoseProverbs$Rose" 54 1 10 (.array .int) true false := ⟨_, TX2, 14, tyX2, "RoseProverbs$Rose", rfl, by decide, in_X2, ty_X2, rfl, np_X2, rfl, (fun _ => rfl), Or.inl rfl, Or.inl ⟨rfl, q628⟩⟩
theorem fr_q628_1 : kx_Fr' "RoseProverbs$Rose" 54 1 10 (.array .int) false := kx_Fd.rd fd_q628_1
theorem fd_q629_1 : kx_Fd "RoseProverbs$Rose" 57 1 11 (.array .int) true false := ⟨_, TX2, 14, tyX2, "RoseProverbs$Rose", rfl, by decide, in_X2, ty_X2, rfl, np_X2, rfl, (fun _ => rfl), Or.inl rfl, Or.inl ⟨rfl, q629⟩⟩
theorem fr_q629_1 : kx_Fr' "RoseProverbs$Rose" 57 1 11 (.array .int) false := kx_Fd.rd fd_q629_1
theorem fd_q630_1 : kx_Fd "RoseProverbs$Rose" 60 1 12 (.array .int) true false := ⟨_, TX2, 14, tyX2, "RoseProverbs$Rose", rfl, by decide, in_X2, ty_X2, rfl, np_X2, rfl, (fun _ => rfl), Or.inl rfl, Or.inl ⟨rfl, q630⟩⟩
theorem fr_q630_1 : kx_Fr' "RoseProverbs$Rose" 60 1 12 (.array .int) false := kx_Fd.rd fd_q630_1
theorem fd_q633_1 : kx_Fd "RoseProverbs$Rose" 95 1 13 (.int) false false := ⟨_, TX2, 14, tyX2, "RoseProverbs$Rose", rfl, by decide, in_X2, ty_X2, rfl, np_X2, rfl, (fun h => nomatch h), Or.inl rfl, Or.inl ⟨rfl, q633⟩⟩
theorem fr_q633_1 : kx_Fr' "RoseProverbs$Rose" 95 1 13 (.int) false := kx_Fd.rd fd_q633_1
theorem fd_q688_2 : kx_Fd "RoseProverbs$Proverb" 9 2 0 (.int) true false := ⟨_, TX3, 11, tyX3, "RoseProverbs$Proverb", rfl, by decide, in_X3, ty_X3, rfl, np_X3, rfl, (fun _ => rfl), Or.inl rfl, Or.inl ⟨rfl, q688⟩⟩
theorem fr_q688_2 : kx_Fr' "RoseProverbs$Proverb" 9 2 0 (.int) false := kx_Fd.rd fd_q688_2
theorem fd_q692_2 : kx_Fd "RoseProverbs$Proverb" 15 2 1 (.int) true false := ⟨_, TX3, 11, tyX3, "RoseProverbs$Proverb", rfl, by decide, in_X3, ty_X3, rfl, np_X3, rfl, (fun _ => rfl), Or.inl rfl, Or.inl ⟨rfl, q692⟩⟩
theorem fr_q692_2 : kx_Fr' "RoseProverbs$Proverb" 15 2 1 (.int) false := kx_Fd.rd fd_q692_2
theorem fd_q694_2 : kx_Fd "RoseProverbs$Proverb" 18 2 2 (.int) true false := ⟨_, TX3, 11, tyX3, "RoseProverbs$Proverb", rfl, by decide, in_X3, ty_X3, rfl, np_X3, rfl, (fun _ => rfl), Or.inl rfl, Or.inl ⟨rfl, q694⟩⟩
theorem fr_q694_2 : kx_Fr' "RoseProverbs$Proverb" 18 2 2 (.int) false := kx_Fd.rd fd_q694_2
theorem fd_q696_2 : kx_Fd "RoseProverbs$Proverb" 21 2 3 (.int) true false := ⟨_, TX3, 11, tyX3, "RoseProverbs$Proverb", rfl, by decide, in_X3, ty_X3, rfl, np_X3, rfl, (fun _ => rfl), Or.inl rfl, Or.inl ⟨rfl, q696⟩⟩
theorem fr_q696_2 : kx_Fr' "RoseProverbs$Proverb" 21 2 3 (.int) false := kx_Fd.rd fd_q696_2
theorem fd_q698_2 : kx_Fd "RoseProverbs$Proverb" 24 2 4 (.int) true false := ⟨_, TX3, 11, tyX3, "RoseProverbs$Proverb", rfl, by decide, in_X3, ty_X3, rfl, np_X3, rfl, (fun _ => rfl), Or.inl rfl, Or.inl ⟨rfl, q698⟩⟩
theorem fr_q698_2 : kx_Fr' "RoseProverbs$Proverb" 24 2 4 (.int) false := kx_Fd.rd fd_q698_2
theorem fd_q700_2 : kx_Fd "RoseProverbs$Proverb" 27 2 5 (.int) true false := ⟨_, TX3, 11, tyX3, "RoseProverbs$Proverb", rfl, by decide, in_X3, ty_X3, rfl, np_X3, rfl, (fun _ => rfl), Or.inl rfl, Or.inl ⟨rfl, q700⟩⟩
theorem fr_q700_2 : kx_Fr' "RoseProverbs$Proverb" 27 2 5 (.int) false := kx_Fd.rd fd_q700_2
theorem fd_q703_2 : kx_Fd "RoseProverbs$Proverb" 30 2 6 (.int) true false := ⟨_, TX3, 11, tyX3, "RoseProverbs$Proverb", rfl, by decide, in_X3, ty_X3, rfl, np_X3, rfl, (fun _ => rfl), Or.inl rfl, Or.inl ⟨rfl, q703⟩⟩
theorem fr_q703_2 : kx_Fr' "RoseProverbs$Proverb" 30 2 6 (.int) false := kx_Fd.rd fd_q703_2
theorem fd_q706_2 : kx_Fd "RoseProverbs$Proverb" 33 2 7 (.int) false false := ⟨_, TX3, 11, tyX3, "RoseProverbs$Proverb", rfl, by decide, in_X3, ty_X3, rfl, np_X3, rfl, (fun h => nomatch h), Or.inl rfl, Or.inl ⟨rfl, q706⟩⟩
theorem fr_q706_2 : kx_Fr' "RoseProverbs$Proverb" 33 2 7 (.int) false := kx_Fd.rd fd_q706_2
theorem fd_q710_2 : kx_Fd "RoseProverbs$Proverb" 40 2 8 (.int) false false := ⟨_, TX3, 11, tyX3, "RoseProverbs$Proverb", rfl, by decide, in_X3, ty_X3, rfl, np_X3, rfl, (fun h => nomatch h), Or.inl rfl, Or.inl ⟨rfl, q710⟩⟩
theorem fr_q710_2 : kx_Fr' "RoseProverbs$Proverb" 40 2 8 (.int) false := kx_Fd.rd fd_q710_2
theorem fd_q712_2 : kx_Fd "RoseProverbs$Proverb" 43 2 9 (.int) false false := ⟨_, TX3, 11, tyX3, "RoseProverbs$Proverb", rfl, by decide, in_X3, ty_X3, rfl, np_X3, rfl, (fun h => nomatch h), Or.inl rfl, Or.inl ⟨rfl, q712⟩⟩
theorem fr_q712_2 : kx_Fr' "RoseProverbs$Proverb" 43 2 9 (.int) false := kx_Fd.rd fd_q712_2
theorem fd_q715_2 : kx_Fd "RoseProverbs$Proverb" 46 2 10 (.boolean) false false := ⟨_, TX3, 11, tyX3, "RoseProverbs$Proverb", rfl, by decide, in_X3, ty_X3, rfl, np_X3, rfl, (fun h => nomatch h), Or.inl rfl, Or.inl ⟨rfl, q715⟩⟩
theorem fr_q715_2 : kx_Fr' "RoseProverbs$Proverb" 46 2 10 (.boolean) false := kx_Fd.rd fd_q715_2
theorem fd_q2970_3 : kx_Fd "RoseProverbsModel" 7 3 0 (.array .int) true false := ⟨_, TX4, 28, tyX4, "RoseProverbsModel", rfl, by decide, in_X4, ty_X4, rfl, np_X4, rfl, (fun _ => rfl), Or.inl rfl, Or.inl ⟨rfl, q2970⟩⟩
theorem fr_q2970_3 : kx_Fr' "RoseProverbsModel" 7 3 0 (.array .int) false := kx_Fd.rd fd_q2970_3
theorem fd_q2971_3 : kx_Fd "RoseProverbsModel" 13 3 1 (.array .int) true false := ⟨_, TX4, 28, tyX4, "RoseProverbsModel", rfl, by decide, in_X4, ty_X4, rfl, np_X4, rfl, (fun _ => rfl), Or.inl rfl, Or.inl ⟨rfl, q2971⟩⟩
theorem fr_q2971_3 : kx_Fr' "RoseProverbsModel" 13 3 1 (.array .int) false := kx_Fd.rd fd_q2971_3
theorem fd_q2972_3 : kx_Fd "RoseProverbsModel" 16 3 2 (.array .int) true false := ⟨_, TX4, 28, tyX4, "RoseProverbsModel", rfl, by decide, in_X4, ty_X4, rfl, np_X4, rfl, (fun _ => rfl), Or.inl rfl, Or.inl ⟨rfl, q2972⟩⟩
theorem fr_q2972_3 : kx_Fr' "RoseProverbsModel" 16 3 2 (.array .int) false := kx_Fd.rd fd_q2972_3
theorem fd_q2973_3 : kx_Fd "RoseProverbsModel" 19 3 3 (.array .int) true false := ⟨_, TX4, 28, tyX4, "RoseProverbsModel", rfl, by decide, in_X4, ty_X4, rfl, np_X4, rfl, (fun _ => rfl), Or.inl rfl, Or.inl ⟨rfl, q2973⟩⟩
theorem fr_q2973_3 : kx_Fr' "RoseProverbsModel" 19 3 3 (.array .int) false := kx_Fd.rd fd_q2973_3
theorem fd_q2974_3 : kx_Fd "RoseProverbsModel" 22 3 4 (.array .int) true false := ⟨_, TX4, 28, tyX4, "RoseProverbsModel", rfl, by decide, in_X4, ty_X4, rfl, np_X4, rfl, (fun _ => rfl), Or.inl rfl, Or.inl ⟨rfl, q2974⟩⟩
theorem fr_q2974_3 : kx_Fr' "RoseProverbsModel" 22 3 4 (.array .int) false := kx_Fd.rd fd_q2974_3
theorem fd_q2975_3 : kx_Fd "RoseProverbsModel" 25 3 5 (.array .int) true false := ⟨_, TX4, 28, tyX4, "RoseProverbsModel", rfl, by decide, in_X4, ty_X4, rfl, np_X4, rfl, (fun _ => rfl), Or.inl rfl, Or.inl ⟨rfl, q2975⟩⟩
theorem fr_q2975_3 : kx_Fr' "RoseProverbsModel" 25 3 5 (.array .int) false := kx_Fd.rd fd_q2975_3
theorem fd_q2976_3 : kx_Fd "RoseProverbsModel" 28 3 6 (.array .int) true false := ⟨_, TX4, 28, tyX4, "RoseProverbsModel", rfl, by decide, in_X4, ty_X4, rfl, np_X4, rfl, (fun _ => rfl), Or.inl rfl, Or.inl ⟨rfl, q2976⟩⟩
theorem fr_q2976_3 : kx_Fr' "RoseProverbsModel" 28 3 6 (.array .int) false := kx_Fd.rd fd_q2976_3
theorem fd_q2977_3 : kx_Fd "RoseProverbsModel" 146 3 7 (.int) false false := ⟨_, TX4, 28, tyX4, "RoseProverbsModel", rfl, by decide, in_X4, ty_X4, rfl, np_X4, rfl, (fun h => nomatch h), Or.inl rfl, Or.inl ⟨rfl, q2977⟩⟩
theorem fr_q2977_3 : kx_Fr' "RoseProverbsModel" 146 3 7 (.int) false := kx_Fd.rd fd_q2977_3
theorem fd_q2978_3 : kx_Fd "RoseProverbsModel" 266 3 8 (.boolean) false false := ⟨_, TX4, 28, tyX4, "RoseProverbsModel", rfl, by decide, in_X4, ty_X4, rfl, np_X4, rfl, (fun h => nomatch h), Or.inl rfl, Or.inl ⟨rfl, q2978⟩⟩
theorem fr_q2978_3 : kx_Fr' "RoseProverbsModel" 266 3 8 (.boolean) false := kx_Fd.rd fd_q2978_3
theorem fd_q2979_3 : kx_Fd "RoseProverbsModel" 60 3 9 (.int) false false := ⟨_, TX4, 28, tyX4, "RoseProverbsModel", rfl, by decide, in_X4, ty_X4, rfl, np_X4, rfl, (fun h => nomatch h), Or.inl rfl, Or.inl ⟨rfl, q2979⟩⟩
theorem fr_q2979_3 : kx_Fr' "RoseProverbsModel" 60 3 9 (.int) false := kx_Fd.rd fd_q2979_3
theorem fd_q2980_3 : kx_Fd "RoseProverbsModel" 31 3 10 (.array .int) true false := ⟨_, TX4, 28, tyX4, "RoseProverbsModel", rfl, by decide, in_X4, ty_X4, rfl, np_X4, rfl, (fun _ => rfl), Or.inl rfl, Or.inl ⟨rfl, q2980⟩⟩
theorem fr_q2980_3 : kx_Fr' "RoseProverbsModel" 31 3 10 (.array .int) false := kx_Fd.rd fd_q2980_3
theorem fd_q2981_3 : kx_Fd "RoseProverbsModel" 153 3 11 (.int) false false := ⟨_, TX4, 28, tyX4, "RoseProverbsModel", rfl, by decide, in_X4, ty_X4, rfl, np_X4, rfl, (fun h => nomatch h), Or.inl rfl, Or.inl ⟨rfl, q2981⟩⟩
theorem fr_q2981_3 : kx_Fr' "RoseProverbsModel" 153 3 11 (.int) false := kx_Fd.rd fd_q2981_3
theorem fd_q2982_3 : kx_Fd "RoseProverbsModel" 254 3 12 (.int) false false := ⟨_, TX4, 28, tyX4, "RoseProverbsModel", rfl, by decide, in_X4, ty_X4, rfl, np_X4, rfl, (fun h => nomatch h), Or.inl rfl, Or.inl ⟨rfl, q2982⟩⟩
theorem fr_q2982_3 : kx_Fr' "RoseProverbsModel" 254 3 12 (.int) false := kx_Fd.rd fd_q2982_3
theorem fd_q2983_3 : kx_Fd "RoseProverbsModel" 34 3 13 (.int) false false := ⟨_, TX4, 28, tyX4, "RoseProverbsModel", rfl, by decide, in_X4, ty_X4, rfl, np_X4, rfl, (fun h => nomatch h), Or.inl rfl, Or.inl ⟨rfl, q2983⟩⟩
theorem fr_q2983_3 : kx_Fr' "RoseProverbsModel" 34 3 13 (.int) false := kx_Fd.rd fd_q2983_3
theorem fd_q2984_3 : kx_Fd "RoseProverbsModel" 180 3 14 (.int) false false := ⟨_, TX4, 28, tyX4, "RoseProverbsModel", rfl, by decide, in_X4, ty_X4, rfl, np_X4, rfl, (fun h => nomatch h), Or.inl rfl, Or.inl ⟨rfl, q2984⟩⟩
theorem fr_q2984_3 : kx_Fr' "RoseProverbsModel" 180 3 14 (.int) false := kx_Fd.rd fd_q2984_3
theorem fd_q2985_3 : kx_Fd "RoseProverbsModel" 183 3 15 (.int) false false := ⟨_, TX4, 28, tyX4, "RoseProverbsModel", rfl, by decide, in_X4, ty_X4, rfl, np_X4, rfl, (fun h => nomatch h), Or.inl rfl, Or.inl ⟨rfl, q2985⟩⟩
theorem fr_q2985_3 : kx_Fr' "RoseProverbsModel" 183 3 15 (.int) false := kx_Fd.rd fd_q2985_3
theorem fd_q2986_3 : kx_Fd "RoseProverbsModel" 165 3 16 (.int) false false := ⟨_, TX4, 28, tyX4, "RoseProverbsModel", rfl, by decide, in_X4, ty_X4, rfl, np_X4, rfl, (fun h => nomatch h), Or.inl rfl, Or.inl ⟨rfl, q2986⟩⟩
theorem fr_q2986_3 : kx_Fr' "RoseProverbsModel" 165 3 16 (.int) false := kx_Fd.rd fd_q2986_3
theorem fd_q2987_3 : kx_Fd "RoseProverbsModel" 168 3 17 (.int) false false := ⟨_, TX4, 28, tyX4, "RoseProverbsModel", rfl, by decide, in_X4, ty_X4, rfl, np_X4, rfl, (fun h => nomatch h), Or.inl rfl, Or.inl ⟨rfl, q2987⟩⟩
theorem fr_q2987_3 : kx_Fr' "RoseProverbsModel" 168 3 17 (.int) false := kx_Fd.rd fd_q2987_3
theorem fd_q2988_3 : kx_Fd "RoseProverbsModel" 171 3 18 (.int) false false := ⟨_, TX4, 28, tyX4, "RoseProverbsModel", rfl, by decide, in_X4, ty_X4, rfl, np_X4, rfl, (fun h => nomatch h), Or.inl rfl, Or.inl ⟨rfl, q2988⟩⟩
theorem fr_q2988_3 : kx_Fr' "RoseProverbsModel" 171 3 18 (.int) false := kx_Fd.rd fd_q2988_3
theorem fd_q2989_3 : kx_Fd "RoseProverbsModel" 174 3 19 (.int) false false := ⟨_, TX4, 28, tyX4, "RoseProverbsModel", rfl, by decide, in_X4, ty_X4, rfl, np_X4, rfl, (fun h => nomatch h), Or.inl rfl, Or.inl ⟨rfl, q2989⟩⟩
theorem fr_q2989_3 : kx_Fr' "RoseProverbsModel" 174 3 19 (.int) false := kx_Fd.rd fd_q2989_3
theorem fd_q2990_3 : kx_Fd "RoseProverbsModel" 198 3 20 (.int) false false := ⟨_, TX4, 28, tyX4, "RoseProverbsModel", rfl, by decide, in_X4, ty_X4, rfl, np_X4, rfl, (fun h => nomatch h), Or.inl rfl, Or.inl ⟨rfl, q2990⟩⟩
theorem fr_q2990_3 : kx_Fr' "RoseProverbsModel" 198 3 20 (.int) false := kx_Fd.rd fd_q2990_3
theorem fd_q2991_3 : kx_Fd "RoseProverbsModel" 38 3 21 (.array .int) true false := ⟨_, TX4, 28, tyX4, "RoseProverbsModel", rfl, by decide, in_X4, ty_X4, rfl, np_X4, rfl, (fun _ => rfl), Or.inl rfl, Or.inl ⟨rfl, q2991⟩⟩
theorem fr_q2991_3 : kx_Fr' "RoseProverbsModel" 38 3 21 (.array .int) false := kx_Fd.rd fd_q2991_3
theorem fd_q2992_3 : kx_Fd "RoseProverbsModel" 41 3 22 (.array .int) true false := ⟨_, TX4, 28, tyX4, "RoseProverbsModel", rfl, by decide, in_X4, ty_X4, rfl, np_X4, rfl, (fun _ => rfl), Or.inl rfl, Or.inl ⟨rfl, q2992⟩⟩
theorem fr_q2992_3 : kx_Fr' "RoseProverbsModel" 41 3 22 (.array .int) false := kx_Fd.rd fd_q2992_3
theorem fd_q2993_3 : kx_Fd "RoseProverbsModel" 44 3 23 (.array .int) true false := ⟨_, TX4, 28, tyX4, "RoseProverbsModel", rfl, by decide, in_X4, ty_X4, rfl, np_X4, rfl, (fun _ => rfl), Or.inl rfl, Or.inl ⟨rfl, q2993⟩⟩
theorem fr_q2993_3 : kx_Fr' "RoseProverbsModel" 44 3 23 (.array .int) false := kx_Fd.rd fd_q2993_3
theorem fd_q2994_3 : kx_Fd "RoseProverbsModel" 251 3 24 (.int) false false := ⟨_, TX4, 28, tyX4, "RoseProverbsModel", rfl, by decide, in_X4, ty_X4, rfl, np_X4, rfl, (fun h => nomatch h), Or.inl rfl, Or.inl ⟨rfl, q2994⟩⟩
theorem fr_q2994_3 : kx_Fr' "RoseProverbsModel" 251 3 24 (.int) false := kx_Fd.rd fd_q2994_3
theorem fd_q2995_3 : kx_Fd "RoseProverbsModel" 47 3 25 (.array .int) true false := ⟨_, TX4, 28, tyX4, "RoseProverbsModel", rfl, by decide, in_X4, ty_X4, rfl, np_X4, rfl, (fun _ => rfl), Or.inl rfl, Or.inl ⟨rfl, q2995⟩⟩
theorem fr_q2995_3 : kx_Fr' "RoseProverbsModel" 47 3 25 (.array .int) false := kx_Fd.rd fd_q2995_3
theorem fd_q2996_3 : kx_Fd "RoseProverbsModel" 50 3 26 (.array .int) true false := ⟨_, TX4, 28, tyX4, "RoseProverbsModel", rfl, by decide, in_X4, ty_X4, rfl, np_X4, rfl, (fun _ => rfl), Or.inl rfl, Or.inl ⟨rfl, q2996⟩⟩
theorem fr_q2996_3 : kx_Fr' "RoseProverbsModel" 50 3 26 (.array .int) false := kx_Fd.rd fd_q2996_3
theorem fd_q2997_3 : kx_Fd "RoseProverbsModel" 386 3 27 (.int) false false := ⟨_, TX4, 28, tyX4, "RoseProverbsModel", rfl, by decide, in_X4, ty_X4, rfl, np_X4, rfl, (fun h => nomatch h), Or.inl rfl, Or.inl ⟨rfl, q2997⟩⟩
theorem fr_q2997_3 : kx_Fr' "RoseProverbsModel" 386 3 27 (.int) false := kx_Fd.rd fd_q2997_3
theorem fd_q1401_4 : kx_Fd "RoseProverbs$Parser" 54 4 0 (.int) false false := ⟨_, TX6, 8, tyX6, "RoseProverbs$Parser", rfl, by decide, in_X6, ty_X6, rfl, np_X6, rfl, (fun h => nomatch h), Or.inl rfl, Or.inl ⟨rfl, q1401⟩⟩
theorem fr_q1401_4 : kx_Fr' "RoseProverbs$Parser" 54 4 0 (.int) false := kx_Fd.rd fd_q1401_4
theorem fd_q1401_6 : kx_Fd "RoseProverbs$Parser" 54 6 0 (.int) false false := ⟨_, TX8, 8, tyX8, "RoseProverbs$Parser", rfl, by decide, in_X8, ty_X8, rfl, np_X8, rfl, (fun h => nomatch h), Or.inl rfl, Or.inl ⟨rfl, q1401⟩⟩
theorem fr_q1401_6 : kx_Fr' "RoseProverbs$Parser" 54 6 0 (.int) false := kx_Fd.rd fd_q1401_6
theorem fd_q1402_4 : kx_Fd "RoseProverbs$Parser" 51 4 1 (.int) false false := ⟨_, TX6, 8, tyX6, "RoseProverbs$Parser", rfl, by decide, in_X6, ty_X6, rfl, np_X6, rfl, (fun h => nomatch h), Or.inl rfl, Or.inl ⟨rfl, q1402⟩⟩
theorem fr_q1402_4 : kx_Fr' "RoseProverbs$Parser" 51 4 1 (.int) false := kx_Fd.rd fd_q1402_4
theorem fd_q1402_6 : kx_Fd "RoseProverbs$Parser" 51 6 1 (.int) false false := ⟨_, TX8, 8, tyX8, "RoseProverbs$Parser", rfl, by decide, in_X8, ty_X8, rfl, np_X8, rfl, (fun h => nomatch h), Or.inl rfl, Or.inl ⟨rfl, q1402⟩⟩
theorem fr_q1402_6 : kx_Fr' "RoseProverbs$Parser" 51 6 1 (.int) false := kx_Fd.rd fd_q1402_6
theorem fd_q1403_4 : kx_Fd "RoseProverbs$Parser" 57 4 2 (.int) false false := ⟨_, TX6, 8, tyX6, "RoseProverbs$Parser", rfl, by decide, in_X6, ty_X6, rfl, np_X6, rfl, (fun h => nomatch h), Or.inl rfl, Or.inl ⟨rfl, q1403⟩⟩
theorem fr_q1403_4 : kx_Fr' "RoseProverbs$Parser" 57 4 2 (.int) false := kx_Fd.rd fd_q1403_4
theorem fd_q1403_6 : kx_Fd "RoseProverbs$Parser" 57 6 2 (.int) false false := ⟨_, TX8, 8, tyX8, "RoseProverbs$Parser", rfl, by decide, in_X8, ty_X8, rfl, np_X8, rfl, (fun h => nomatch h), Or.inl rfl, Or.inl ⟨rfl, q1403⟩⟩
theorem fr_q1403_6 : kx_Fr' "RoseProverbs$Parser" 57 6 2 (.int) false := kx_Fd.rd fd_q1403_6
theorem fd_q1404_4 : kx_Fd "RoseProverbs$Parser" 82 4 3 (.int) false false := ⟨_, TX6, 8, tyX6, "RoseProverbs$Parser", rfl, by decide, in_X6, ty_X6, rfl, np_X6, rfl, (fun h => nomatch h), Or.inl rfl, Or.inl ⟨rfl, q1404⟩⟩
theorem fr_q1404_4 : kx_Fr' "RoseProverbs$Parser" 82 4 3 (.int) false := kx_Fd.rd fd_q1404_4
theorem fd_q1404_6 : kx_Fd "RoseProverbs$Parser" 82 6 3 (.int) false false := ⟨_, TX8, 8, tyX8, "RoseProverbs$Parser", rfl, by decide, in_X8, ty_X8, rfl, np_X8, rfl, (fun h => nomatch h), Or.inl rfl, Or.inl ⟨rfl, q1404⟩⟩
theorem fr_q1404_6 : kx_Fr' "RoseProverbs$Parser" 82 6 3 (.int) false := kx_Fd.rd fd_q1404_6
theorem fd_q1405_4 : kx_Fd "RoseProverbs$Parser" 17 4 4 (.object "java/lang/String") false false := ⟨_, TX6, 8, tyX6, "RoseProverbs$Parser", rfl, by decide, in_X6, ty_X6, rfl, np_X6, rfl, (fun h => nomatch h), Or.inl rfl, Or.inl ⟨rfl, q1405⟩⟩
theorem fr_q1405_4 : kx_Fr' "RoseProverbs$Parser" 17 4 4 (.object "java/lang/String") false := kx_Fd.rd fd_q1405_4
theorem fd_q1405_6 : kx_Fd "RoseProverbs$Parser" 17 6 4 (.object "java/lang/String") false false := ⟨_, TX8, 8, tyX8, "RoseProverbs$Parser", rfl, by decide, in_X8, ty_X8, rfl, np_X8, rfl, (fun h => nomatch h), Or.inl rfl, Or.inl ⟨rfl, q1405⟩⟩
theorem fr_q1405_6 : kx_Fr' "RoseProverbs$Parser" 17 6 4 (.object "java/lang/String") false := kx_Fd.rd fd_q1405_6
theorem fd_q1406_4 : kx_Fd "RoseProverbs$Parser" 3 4 5 (.object "RoseProverbs") true false := ⟨_, TX6, 8, tyX6, "RoseProverbs$Parser", rfl, by decide, in_X6, ty_X6, rfl, np_X6, rfl, (fun _ => rfl), Or.inl rfl, Or.inl ⟨rfl, q1406⟩⟩
theorem fr_q1406_4 : kx_Fr' "RoseProverbs$Parser" 3 4 5 (.object "RoseProverbs") false := kx_Fd.rd fd_q1406_4
theorem fd_q1406_6 : kx_Fd "RoseProverbs$Parser" 3 6 5 (.object "RoseProverbs") true false := ⟨_, TX8, 8, tyX8, "RoseProverbs$Parser", rfl, by decide, in_X8, ty_X8, rfl, np_X8, rfl, (fun _ => rfl), Or.inl rfl, Or.inl ⟨rfl, q1406⟩⟩
theorem fr_q1406_6 : kx_Fr' "RoseProverbs$Parser" 3 6 5 (.object "RoseProverbs") false := kx_Fd.rd fd_q1406_6
theorem fd_q1399_4 : kx_Fd "RoseProverbs$Setup" 20 4 6 (.object "RoseProverbs$Rose") true false := ⟨_, TX6, 8, tyX6, "RoseProverbs$Setup", rfl, by decide, in_X6, ty_X6, rfl, np_X6, rfl, (fun _ => rfl), Or.inl rfl, Or.inl ⟨rfl, q1399⟩⟩
theorem fr_q1399_4 : kx_Fr' "RoseProverbs$Setup" 20 4 6 (.object "RoseProverbs$Rose") false := kx_Fd.rd fd_q1399_4
theorem fd_q1400_4 : kx_Fd "RoseProverbs$Setup" 3 4 7 (.object "RoseProverbs") true false := ⟨_, TX6, 8, tyX6, "RoseProverbs$Setup", rfl, by decide, in_X6, ty_X6, rfl, np_X6, rfl, (fun _ => rfl), Or.inl rfl, Or.inl ⟨rfl, q1400⟩⟩
theorem fr_q1400_4 : kx_Fr' "RoseProverbs$Setup" 3 4 7 (.object "RoseProverbs") false := kx_Fd.rd fd_q1400_4
theorem fd_q1478_5 : kx_Fd "RoseProverbs$ParseException" 7 5 6 (.int) true false := ⟨_, TX7, 8, tyX7, "RoseProverbs$ParseException", rfl, by decide, in_X7, ty_X7, rfl, np_X7, rfl, (fun _ => rfl), Or.inl rfl, Or.inl ⟨rfl, q1478⟩⟩
theorem fr_q1478_5 : kx_Fr' "RoseProverbs$ParseException" 7 5 6 (.int) false := kx_Fd.rd fd_q1478_5
theorem fd_q1480_5 : kx_Fd "RoseProverbs$ParseException" 13 5 7 (.int) true false := ⟨_, TX7, 8, tyX7, "RoseProverbs$ParseException", rfl, by decide, in_X7, ty_X7, rfl, np_X7, rfl, (fun _ => rfl), Or.inl rfl, Or.inl ⟨rfl, q1480⟩⟩
theorem fr_q1480_5 : kx_Fr' "RoseProverbs$ParseException" 13 5 7 (.int) false := kx_Fd.rd fd_q1480_5
theorem fd_q1637_6 : kx_Fd "RoseProverbs$Script" 20 6 6 (.object "java/util/List") true false := ⟨_, TX8, 8, tyX8, "RoseProverbs$Script", rfl, by decide, in_X8, ty_X8, rfl, np_X8, rfl, (fun _ => rfl), Or.inl rfl, Or.inl ⟨rfl, q1637⟩⟩
theorem fr_q1637_6 : kx_Fr' "RoseProverbs$Script" 20 6 6 (.object "java/util/List") false := kx_Fd.rd fd_q1637_6
theorem fd_q1638_6 : kx_Fd "RoseProverbs$Script" 3 6 7 (.object "RoseProverbs") true false := ⟨_, TX8, 8, tyX8, "RoseProverbs$Script", rfl, by decide, in_X8, ty_X8, rfl, np_X8, rfl, (fun _ => rfl), Or.inl rfl, Or.inl ⟨rfl, q1638⟩⟩
theorem fr_q1638_6 : kx_Fr' "RoseProverbs$Script" 3 6 7 (.object "RoseProverbs") false := kx_Fd.rd fd_q1638_6
theorem fd_q554_14 : kx_Fd "java/util/ArrayList$Itr" 28 14 2 (.int) false true := ⟨_, TJ2, 3, tyJ2, "java/util/ArrayList", rfl, by decide, in_J2, ty_J2, rfl, np_J2, rfl, (fun h => nomatch h), Or.inl rfl, Or.inr ⟨_, rfl, q554⟩⟩
theorem fr_q554_14 : kx_Fr' "java/util/ArrayList$Itr" 28 14 2 (.int) true := kx_Fd.rd fd_q554_14
theorem fd_q580_18 : kx_Fd "java/util/TreeMap$PrivateEntryIterator" 13 18 5 (.int) false true := ⟨_, TJ19, 9, tyJ19, "java/util/TreeMap", rfl, by decide, in_J19, ty_J19, rfl, np_J19, rfl, (fun h => nomatch h), Or.inl rfl, Or.inr ⟨_, rfl, q580⟩⟩
theorem fr_q580_18 : kx_Fr' "java/util/TreeMap$PrivateEntryIterator" 13 18 5 (.int) true := kx_Fd.rd fd_q580_18
theorem fr_q608_1 : kx_Fr' "RoseProverbs" 18 1 0 (.object "java/util/List") true := ⟨_, TX2, 14, tyX2, "RoseProverbs$Rose", rfl, by decide, in_X2, ty_X2, rfl, np_X2, Or.inl rfl, Or.inr ⟨_, rfl, q608⟩⟩
theorem fr_q610_1 : kx_Fr' "RoseProverbs" 210 1 1 (.object "java/util/TreeMap") true := ⟨_, TX2, 14, tyX2, "RoseProverbs$Rose", rfl, by decide, in_X2, ty_X2, rfl, np_X2, Or.inl rfl, Or.inr ⟨_, rfl, q610⟩⟩
theorem fr_q613_1 : kx_Fr' "RoseProverbs" 207 1 2 (.array .int) true := ⟨_, TX2, 14, tyX2, "RoseProverbs$Rose", rfl, by decide, in_X2, ty_X2, rfl, np_X2, Or.inl rfl, Or.inr ⟨_, rfl, q613⟩⟩
theorem fr_q615_1 : kx_Fr' "RoseProverbs" 34 1 3 (.array .int) true := ⟨_, TX2, 14, tyX2, "RoseProverbs$Rose", rfl, by decide, in_X2, ty_X2, rfl, np_X2, Or.inl rfl, Or.inr ⟨_, rfl, q615⟩⟩
theorem fr_q617_1 : kx_Fr' "RoseProverbs" 366 1 4 (.array .int) true := ⟨_, TX2, 14, tyX2, "RoseProverbs$Rose", rfl, by decide, in_X2, ty_X2, rfl, np_X2, Or.inl rfl, Or.inr ⟨_, rfl, q617⟩⟩
theorem fr_q619_1 : kx_Fr' "RoseProverbs" 330 1 5 (.array .short) true := ⟨_, TX2, 14, tyX2, "RoseProverbs$Rose", rfl, by decide, in_X2, ty_X2, rfl, np_X2, Or.inl rfl, Or.inr ⟨_, rfl, q619⟩⟩
theorem fr_q621_1 : kx_Fr' "RoseProverbs" 337 1 6 (.array .short) true := ⟨_, TX2, 14, tyX2, "RoseProverbs$Rose", rfl, by decide, in_X2, ty_X2, rfl, np_X2, Or.inl rfl, Or.inr ⟨_, rfl, q621⟩⟩
theorem fr_q623_1 : kx_Fr' "RoseProverbs" 369 1 7 (.array .byte) true := ⟨_, TX2, 14, tyX2, "RoseProverbs$Rose", rfl, by decide, in_X2, ty_X2, rfl, np_X2, Or.inl rfl, Or.inr ⟨_, rfl, q623⟩⟩
theorem fr_q625_1 : kx_Fr' "RoseProverbs" 372 1 8 (.array .byte) true := ⟨_, TX2, 14, tyX2, "RoseProverbs$Rose", rfl, by decide, in_X2, ty_X2, rfl, np_X2, Or.inl rfl, Or.inr ⟨_, rfl, q625⟩⟩
theorem fr_q627_1 : kx_Fr' "RoseProverbs" 375 1 9 (.array .byte) true := ⟨_, TX2, 14, tyX2, "RoseProverbs$Rose", rfl, by decide, in_X2, ty_X2, rfl, np_X2, Or.inl rfl, Or.inr ⟨_, rfl, q627⟩⟩
theorem fr_q631_1 : kx_Fr' "RoseProverbs" 319 1 12 (.array .int) true := ⟨_, TX2, 14, tyX2, "RoseProverbs$Rose", rfl, by decide, in_X2, ty_X2, rfl, np_X2, Or.inl rfl, Or.inr ⟨_, rfl, q631⟩⟩
theorem fd_q634_1 : kx_Fd "RoseProverbs" 217 1 13 (.int) false true := ⟨_, TX2, 14, tyX2, "RoseProverbs$Rose", rfl, by decide, in_X2, ty_X2, rfl, np_X2, rfl, (fun h => nomatch h), Or.inl rfl, Or.inr ⟨_, rfl, q634⟩⟩
theorem fr_q634_1 : kx_Fr' "RoseProverbs" 217 1 13 (.int) true := kx_Fd.rd fd_q634_1
theorem fr_q691_2 : kx_Fr' "RoseProverbs" 301 2 0 (.int) true := ⟨_, TX3, 11, tyX3, "RoseProverbs$Proverb", rfl, by decide, in_X3, ty_X3, rfl, np_X3, Or.inl rfl, Or.inr ⟨_, rfl, q691⟩⟩
theorem fr_q693_2 : kx_Fr' "RoseProverbs" 257 2 1 (.int) true := ⟨_, TX3, 11, tyX3, "RoseProverbs$Proverb", rfl, by decide, in_X3, ty_X3, rfl, np_X3, Or.inl rfl, Or.inr ⟨_, rfl, q693⟩⟩
theorem fr_q695_2 : kx_Fr' "RoseProverbs" 260 2 2 (.int) true := ⟨_, TX3, 11, tyX3, "RoseProverbs$Proverb", rfl, by decide, in_X3, ty_X3, rfl, np_X3, Or.inl rfl, Or.inr ⟨_, rfl, q695⟩⟩
theorem fr_q697_2 : kx_Fr' "RoseProverbs" 263 2 3 (.int) true := ⟨_, TX3, 11, tyX3, "RoseProverbs$Proverb", rfl, by decide, in_X3, ty_X3, rfl, np_X3, Or.inl rfl, Or.inr ⟨_, rfl, q697⟩⟩
theorem fr_q699_2 : kx_Fr' "RoseProverbs" 265 2 4 (.int) true := ⟨_, TX3, 11, tyX3, "RoseProverbs$Proverb", rfl, by decide, in_X3, ty_X3, rfl, np_X3, Or.inl rfl, Or.inr ⟨_, rfl, q699⟩⟩
theorem fr_q702_2 : kx_Fr' "RoseProverbs" 268 2 5 (.int) true := ⟨_, TX3, 11, tyX3, "RoseProverbs$Proverb", rfl, by decide, in_X3, ty_X3, rfl, np_X3, Or.inl rfl, Or.inr ⟨_, rfl, q702⟩⟩
theorem fr_q705_2 : kx_Fr' "RoseProverbs" 271 2 6 (.int) true := ⟨_, TX3, 11, tyX3, "RoseProverbs$Proverb", rfl, by decide, in_X3, ty_X3, rfl, np_X3, Or.inl rfl, Or.inr ⟨_, rfl, q705⟩⟩
theorem fd_q709_2 : kx_Fd "RoseProverbs" 184 2 7 (.int) false true := ⟨_, TX3, 11, tyX3, "RoseProverbs$Proverb", rfl, by decide, in_X3, ty_X3, rfl, np_X3, rfl, (fun h => nomatch h), Or.inl rfl, Or.inr ⟨_, rfl, q709⟩⟩
theorem fr_q709_2 : kx_Fr' "RoseProverbs" 184 2 7 (.int) true := kx_Fd.rd fd_q709_2
theorem fd_q711_2 : kx_Fd "RoseProverbs" 274 2 8 (.int) false true := ⟨_, TX3, 11, tyX3, "RoseProverbs$Proverb", rfl, by decide, in_X3, ty_X3, rfl, np_X3, rfl, (fun h => nomatch h), Or.inl rfl, Or.inr ⟨_, rfl, q711⟩⟩
theorem fr_q711_2 : kx_Fr' "RoseProverbs" 274 2 8 (.int) true := kx_Fd.rd fd_q711_2
theorem fd_q713_2 : kx_Fd "RoseProverbs" 277 2 9 (.int) false true := ⟨_, TX3, 11, tyX3, "RoseProverbs$Proverb", rfl, by decide, in_X3, ty_X3, rfl, np_X3, rfl, (fun h => nomatch h), Or.inl rfl, Or.inr ⟨_, rfl, q713⟩⟩
theorem fr_q713_2 : kx_Fr' "RoseProverbs" 277 2 9 (.int) true := kx_Fd.rd fd_q713_2
theorem fd_q717_2 : kx_Fd "RoseProverbs" 180 2 10 (.boolean) false true := ⟨_, TX3, 11, tyX3, "RoseProverbs$Proverb", rfl, by decide, in_X3, ty_X3, rfl, np_X3, rfl, (fun h => nomatch h), Or.inl rfl, Or.inr ⟨_, rfl, q717⟩⟩
theorem fr_q717_2 : kx_Fr' "RoseProverbs" 180 2 10 (.boolean) true := kx_Fd.rd fd_q717_2
theorem fr_q1479_5 : kx_Fr' "RoseProverbs" 112 5 6 (.int) true := ⟨_, TX7, 8, tyX7, "RoseProverbs$ParseException", rfl, by decide, in_X7, ty_X7, rfl, np_X7, Or.inl rfl, Or.inr ⟨_, rfl, q1479⟩⟩
theorem fr_q1481_5 : kx_Fr' "RoseProverbs" 117 5 7 (.int) true := ⟨_, TX7, 8, tyX7, "RoseProverbs$ParseException", rfl, by decide, in_X7, ty_X7, rfl, np_X7, Or.inl rfl, Or.inr ⟨_, rfl, q1481⟩⟩
theorem fd_q632_1 : kx_Fd "RoseProverbs$Script$1" 22 1 13 (.int) false true := ⟨_, TX2, 14, tyX2, "RoseProverbs$Rose", rfl, by decide, in_X2, ty_X2, rfl, np_X2, rfl, (fun h => nomatch h), Or.inl rfl, Or.inr ⟨_, rfl, q632⟩⟩
theorem fr_q632_1 : kx_Fr' "RoseProverbs$Script$1" 22 1 13 (.int) true := kx_Fd.rd fd_q632_1
theorem fr_q605_1 : kx_Fr' "RoseProverbs$Script$2" 17 1 0 (.object "java/util/List") true := ⟨_, TX2, 14, tyX2, "RoseProverbs$Rose", rfl, by decide, in_X2, ty_X2, rfl, np_X2, Or.inl rfl, Or.inr ⟨_, rfl, q605⟩⟩
theorem fd_q714_2 : kx_Fd "RoseProverbs$Script$2" 33 2 10 (.boolean) false true := ⟨_, TX3, 11, tyX3, "RoseProverbs$Proverb", rfl, by decide, in_X3, ty_X3, rfl, np_X3, rfl, (fun h => nomatch h), Or.inl rfl, Or.inr ⟨_, rfl, q714⟩⟩
theorem fr_q714_2 : kx_Fr' "RoseProverbs$Script$2" 33 2 10 (.boolean) true := kx_Fd.rd fd_q714_2
theorem fr_q606_1 : kx_Fr' "RoseProverbs$Script$3" 20 1 0 (.object "java/util/List") true := ⟨_, TX2, 14, tyX2, "RoseProverbs$Rose", rfl, by decide, in_X2, ty_X2, rfl, np_X2, Or.inl rfl, Or.inr ⟨_, rfl, q606⟩⟩
theorem fr_q607_1 : kx_Fr' "RoseProverbs$Rose$Speakers$1" 27 1 0 (.object "java/util/List") true := ⟨_, TX2, 14, tyX2, "RoseProverbs$Rose", rfl, by decide, in_X2, ty_X2, rfl, np_X2, Or.inl rfl, Or.inr ⟨_, rfl, q607⟩⟩
theorem fr_q2634_12 : kx_Fr' "RoseProverbs$Rose$Speakers$1" 43 12 0 (.int) true := ⟨_, TX16, 3, tyX16, "RoseProverbs$Rose$Speakers", rfl, by decide, in_X16, ty_X16, rfl, np_X16, Or.inl rfl, Or.inr ⟨_, rfl, q2634⟩⟩
theorem fr_q2636_12 : kx_Fr' "RoseProverbs$Rose$Speakers$1" 46 12 1 (.int) true := ⟨_, TX16, 3, tyX16, "RoseProverbs$Rose$Speakers", rfl, by decide, in_X16, ty_X16, rfl, np_X16, Or.inl rfl, Or.inr ⟨_, rfl, q2636⟩⟩
theorem fr_q689_2 : kx_Fr' "RoseProverbs$Heavier" 13 2 0 (.int) true := ⟨_, TX3, 11, tyX3, "RoseProverbs$Proverb", rfl, by decide, in_X3, ty_X3, rfl, np_X3, Or.inl rfl, Or.inr ⟨_, rfl, q689⟩⟩
theorem fd_q707_2 : kx_Fd "RoseProverbs$Heavier" 7 2 7 (.int) false true := ⟨_, TX3, 11, tyX3, "RoseProverbs$Proverb", rfl, by decide, in_X3, ty_X3, rfl, np_X3, rfl, (fun h => nomatch h), Or.inl rfl, Or.inr ⟨_, rfl, q707⟩⟩
theorem fr_q707_2 : kx_Fr' "RoseProverbs$Heavier" 7 2 7 (.int) true := kx_Fd.rd fd_q707_2
theorem fr_q690_2 : kx_Fr' "RoseProverbs$Rose" 130 2 0 (.int) true := ⟨_, TX3, 11, tyX3, "RoseProverbs$Proverb", rfl, by decide, in_X3, ty_X3, rfl, np_X3, Or.inl rfl, Or.inr ⟨_, rfl, q690⟩⟩
theorem fr_q701_2 : kx_Fr' "RoseProverbs$Rose" 159 2 5 (.int) true := ⟨_, TX3, 11, tyX3, "RoseProverbs$Proverb", rfl, by decide, in_X3, ty_X3, rfl, np_X3, Or.inl rfl, Or.inr ⟨_, rfl, q701⟩⟩
theorem fr_q704_2 : kx_Fr' "RoseProverbs$Rose" 202 2 6 (.int) true := ⟨_, TX3, 11, tyX3, "RoseProverbs$Proverb", rfl, by decide, in_X3, ty_X3, rfl, np_X3, Or.inl rfl, Or.inr ⟨_, rfl, q704⟩⟩
theorem fd_q708_2 : kx_Fd "RoseProverbs$Rose" 147 2 7 (.int) false true := ⟨_, TX3, 11, tyX3, "RoseProverbs$Proverb", rfl, by decide, in_X3, ty_X3, rfl, np_X3, rfl, (fun h => nomatch h), Or.inl rfl, Or.inr ⟨_, rfl, q708⟩⟩
theorem fr_q708_2 : kx_Fr' "RoseProverbs$Rose" 147 2 7 (.int) true := kx_Fd.rd fd_q708_2
theorem fd_q716_2 : kx_Fd "RoseProverbs$Rose" 113 2 10 (.boolean) false true := ⟨_, TX3, 11, tyX3, "RoseProverbs$Proverb", rfl, by decide, in_X3, ty_X3, rfl, np_X3, rfl, (fun h => nomatch h), Or.inl rfl, Or.inr ⟨_, rfl, q716⟩⟩
theorem fr_q716_2 : kx_Fr' "RoseProverbs$Rose" 113 2 10 (.boolean) true := kx_Fd.rd fd_q716_2
theorem fr_q1203_0 : kx_Fr' "RoseProverbs$Parser" 28 0 0 (.array .byte) true := ⟨_, TX1, 9, tyX1, "RoseProverbs", rfl, by decide, in_X1, ty_X1, rfl, np_X1, Or.inl rfl, Or.inr ⟨_, rfl, q1203⟩⟩
theorem fd_q1205_0 : kx_Fd "RoseProverbs$Parser" 24 0 1 (.int) false true := ⟨_, TX1, 9, tyX1, "RoseProverbs", rfl, by decide, in_X1, ty_X1, rfl, np_X1, rfl, (fun h => nomatch h), Or.inl rfl, Or.inr ⟨_, rfl, q1205⟩⟩
theorem fr_q1205_0 : kx_Fr' "RoseProverbs$Parser" 24 0 1 (.int) true := kx_Fd.rd fd_q1205_0
theorem fr_q604_1 : kx_Fr' "RoseProverbs$Setup" 24 1 0 (.object "java/util/List") true := ⟨_, TX2, 14, tyX2, "RoseProverbs$Rose", rfl, by decide, in_X2, ty_X2, rfl, np_X2, Or.inl rfl, Or.inr ⟨_, rfl, q604⟩⟩
theorem fr_q612_1 : kx_Fr' "RoseProverbs$Setup" 61 1 2 (.array .int) true := ⟨_, TX2, 14, tyX2, "RoseProverbs$Rose", rfl, by decide, in_X2, ty_X2, rfl, np_X2, Or.inl rfl, Or.inr ⟨_, rfl, q612⟩⟩
theorem kn_q1584 : kx_Nk "jdk/internal/util/ArraysSupport" 89 15 4 [.null, .int 0, .int 0, .int 0] := ⟨_, TJ8, tyJ8, rfl, in_J8, ty_J8, q1584, q279, q143, fun j hj => by match j, hj with | 0, _ => rfl | 1, _ => rfl | 2, _ => rfl | 3, _ => rfl | j + 4, h => exact absurd h (by omega)⟩
theorem kn_q494 : kx_Nk "java/util/Arrays" 45 15 4 [.null, .int 0, .int 0, .int 0] := ⟨_, TJ8, tyJ8, rfl, in_J8, ty_J8, q494, q279, q143, fun j hj => by match j, hj with | 0, _ => rfl | 1, _ => rfl | 2, _ => rfl | 3, _ => rfl | j + 4, h => exact absurd h (by omega)⟩
theorem kn_q834 : kx_Nk "java/lang/Integer" 1 17 1 [.int 0] := ⟨_, TJ17, tyJ17, rfl, in_J17, ty_J17, q834, q835, q153, fun j hj => by match j, hj with | 0, _ => rfl | j + 1, h => exact absurd h (by omega)⟩
theorem kn_q1338 : kx_Nk "java/lang/Integer" 97 15 4 [.null, .int 0, .int 0, .int 0] := ⟨_, TJ8, tyJ8, rfl, in_J8, ty_J8, q1338, q279, q143, fun j hj => by match j, hj with | 0, _ => rfl | 1, _ => rfl | 2, _ => rfl | 3, _ => rfl | j + 4, h => exact absurd h (by omega)⟩
theorem kn_q1075 : kx_Nk "java/util/TreeMap" 59 19 6 [.null, .null, .null, .null, .null, .int 0] := ⟨_, TJ22, tyJ22, rfl, in_J22, ty_J22, q1075, q1076, q161, fun j hj => by match j, hj with | 0, _ => rfl | 1, _ => rfl | 2, _ => rfl | 3, _ => rfl | 4, _ => rfl | 5, _ => rfl | j + 6, h => exact absurd h (by omega)⟩
theorem kn_q2081 : kx_Nk "java/util/TreeMap" 237 23 1 [.null] := ⟨_, TJ36, tyJ36, rfl, in_J36, ty_J36, q2081, q2082, q190, fun j hj => by match j, hj with | 0, _ => rfl | j + 1, h => exact absurd h (by omega)⟩
theorem kn_q278 : kx_Nk "java/util/ArrayList" 20 15 4 [.null, .int 0, .int 0, .int 0] := ⟨_, TJ8, tyJ8, rfl, in_J8, ty_J8, q278, q279, q143, fun j hj => by match j, hj with | 0, _ => rfl | 1, _ => rfl | 2, _ => rfl | 3, _ => rfl | j + 4, h => exact absurd h (by omega)⟩
theorem kn_q2127 : kx_Nk "java/util/ArrayList" 267 21 4 [.int 0, .int 0, .int 0, .null] := ⟨_, TJ31, tyJ31, rfl, in_J31, ty_J31, q2127, q2128, q182, fun j hj => by match j, hj with | 0, _ => rfl | 1, _ => rfl | 2, _ => rfl | 3, _ => rfl | j + 4, h => exact absurd h (by omega)⟩
theorem kn_q1368 : kx_Nk "java/lang/NumberFormatException" 12 15 4 [.null, .int 0, .int 0, .int 0] := ⟨_, TJ8, tyJ8, rfl, in_J8, ty_J8, q1368, q279, q143, fun j hj => by match j, hj with | 0, _ => rfl | 1, _ => rfl | 2, _ => rfl | 3, _ => rfl | j + 4, h => exact absurd h (by omega)⟩
theorem kn_q2926 : kx_Nk "java/lang/ArrayIndexOutOfBoundsException" 10 15 4 [.null, .int 0, .int 0, .int 0] := ⟨_, TJ8, tyJ8, rfl, in_J8, ty_J8, q2926, q279, q143, fun j hj => by match j, hj with | 0, _ => rfl | 1, _ => rfl | 2, _ => rfl | 3, _ => rfl | j + 4, h => exact absurd h (by omega)⟩
theorem kn_q2215 : kx_Nk "java/util/TreeMap$Values" 13 24 4 [.null, .null, .int 0, .null] := ⟨_, TJ41, tyJ41, rfl, in_J41, ty_J41, q2215, q2216, q195, fun j hj => by match j, hj with | 0, _ => rfl | 1, _ => rfl | 2, _ => rfl | 3, _ => rfl | j + 4, h => exact absurd h (by omega)⟩
theorem kn_q2896 : kx_Nk "java/lang/StringIndexOutOfBoundsException" 10 15 4 [.null, .int 0, .int 0, .int 0] := ⟨_, TJ8, tyJ8, rfl, in_J8, ty_J8, q2896, q279, q143, fun j hj => by match j, hj with | 0, _ => rfl | 1, _ => rfl | 2, _ => rfl | 3, _ => rfl | j + 4, h => exact absurd h (by omega)⟩
theorem kn_q461 : kx_Nk "java/lang/StringBuilder" 18 16 4 [.null, .int 0, .int 0, .int 0] := ⟨_, TJ9, tyJ9, rfl, in_J9, ty_J9, q461, q462, q144, fun j hj => by match j, hj with | 0, _ => rfl | 1, _ => rfl | 2, _ => rfl | 3, _ => rfl | j + 4, h => exact absurd h (by omega)⟩
theorem kn_q1034 : kx_Nk "java/lang/StringBuilder" 24 15 4 [.null, .int 0, .int 0, .int 0] := ⟨_, TJ8, tyJ8, rfl, in_J8, ty_J8, q1034, q279, q143, fun j hj => by match j, hj with | 0, _ => rfl | 1, _ => rfl | 2, _ => rfl | 3, _ => rfl | j + 4, h => exact absurd h (by omega)⟩
theorem kn_q887 : kx_Nk "java/lang/String" 10 16 4 [.null, .int 0, .int 0, .int 0] := ⟨_, TJ9, tyJ9, rfl, in_J9, ty_J9, q887, q462, q144, fun j hj => by match j, hj with | 0, _ => rfl | 1, _ => rfl | 2, _ => rfl | 3, _ => rfl | j + 4, h => exact absurd h (by omega)⟩
theorem kn_q199 : kx_Nk "RoseProverbsLaw" 8 0 9 [.null, .int 0, .int 0, .int 0, .null, .null, .null, .null, .null] := ⟨_, TX1, tyX1, rfl, in_X1, ty_X1, q199, q200, q133, fun j hj => by match j, hj with | 0, _ => rfl | 1, _ => rfl | 2, _ => rfl | 3, _ => rfl | 4, _ => rfl | 5, _ => rfl | 6, _ => rfl | 7, _ => rfl | 8, _ => rfl | j + 9, h => exact absurd h (by omega)⟩
theorem kn_q2952 : kx_Nk "RoseProverbsLaw" 119 3 28 [.null, .null, .null, .null, .null, .null, .null, .int 0, .int 0, .int 0, .null, .int 0, .int 0, .int 0, .int 0, .int 0, .int 0, .int 0, .int 0, .int 0, .int 0, .null, .null, .null, .int 0, .null, .null, .int 0] := ⟨_, TX4, tyX4, rfl, in_X4, ty_X4, q2952, q2953, q164, fun j hj => by match j, hj with | 0, _ => rfl | 1, _ => rfl | 2, _ => rfl | 3, _ => rfl | 4, _ => rfl | 5, _ => rfl | 6, _ => rfl | 7, _ => rfl | 8, _ => rfl | 9, _ => rfl | 10, _ => rfl | 11, _ => rfl | 12, _ => rfl | 13, _ => rfl | 14, _ => rfl | 15, _ => rfl | 16, _ => rfl | 17, _ => rfl | 18, _ => rfl | 19, _ => rfl | 20, _ => rfl | 21, _ => rfl | 22, _ => rfl | 23, _ => rfl | 24, _ => rfl | 25, _ => rfl | 26, _ => rfl | 27, _ => rfl | j + 28, h => exact absurd h (by omega)⟩
theorem kn_q210 : kx_Nk "RoseProverbs" 19 1 14 [.null, .null, .null, .null, .null, .null, .null, .null, .null, .null, .null, .null, .null, .int 0] := ⟨_, TX2, tyX2, rfl, in_X2, ty_X2, q210, q211, q134, fun j hj => by match j, hj with | 0, _ => rfl | 1, _ => rfl | 2, _ => rfl | 3, _ => rfl | 4, _ => rfl | 5, _ => rfl | 6, _ => rfl | 7, _ => rfl | 8, _ => rfl | 9, _ => rfl | 10, _ => rfl | 11, _ => rfl | 12, _ => rfl | 13, _ => rfl | j + 14, h => exact absurd h (by omega)⟩
theorem kn_q1182 : kx_Nk "RoseProverbs" 82 20 3 [.null, .int 0, .int 0] := ⟨_, TJ24, tyJ24, rfl, in_J24, ty_J24, q1182, q1183, q163, fun j hj => by match j, hj with | 0, _ => rfl | 1, _ => rfl | 2, _ => rfl | j + 3, h => exact absurd h (by omega)⟩
theorem kn_q1201 : kx_Nk "RoseProverbs" 89 15 4 [.null, .int 0, .int 0, .int 0] := ⟨_, TJ8, tyJ8, rfl, in_J8, ty_J8, q1201, q279, q143, fun j hj => by match j, hj with | 0, _ => rfl | 1, _ => rfl | 2, _ => rfl | 3, _ => rfl | j + 4, h => exact absurd h (by omega)⟩
theorem kn_q1252 : kx_Nk "RoseProverbs" 113 5 8 [.null, .null, .null, .null, .null, .int 0, .int 0, .int 0] := ⟨_, TX7, tyX7, rfl, in_X7, ty_X7, q1252, q1461, q171, fun j hj => by match j, hj with | 0, _ => rfl | 1, _ => rfl | 2, _ => rfl | 3, _ => rfl | 4, _ => rfl | 5, _ => rfl | 6, _ => rfl | 7, _ => rfl | j + 8, h => exact absurd h (by omega)⟩
theorem kn_q1257 : kx_Nk "RoseProverbs" 123 4 8 [.int 0, .int 0, .int 0, .int 0, .null, .null, .null, .null] := ⟨_, TX6, tyX6, rfl, in_X6, ty_X6, q1257, q1258, q166, fun j hj => by match j, hj with | 0, _ => rfl | 1, _ => rfl | 2, _ => rfl | 3, _ => rfl | 4, _ => rfl | 5, _ => rfl | 6, _ => rfl | 7, _ => rfl | j + 8, h => exact absurd h (by omega)⟩
theorem kn_q1629 : kx_Nk "RoseProverbs" 141 6 8 [.int 0, .int 0, .int 0, .int 0, .null, .null, .null, .null] := ⟨_, TX8, tyX8, rfl, in_X8, ty_X8, q1629, q1630, q172, fun j hj => by match j, hj with | 0, _ => rfl | 1, _ => rfl | 2, _ => rfl | 3, _ => rfl | 4, _ => rfl | 5, _ => rfl | 6, _ => rfl | 7, _ => rfl | j + 8, h => exact absurd h (by omega)⟩
theorem kn_q2036 : kx_Nk "RoseProverbs" 340 22 4 [.null, .int 0, .null, .int 0] := ⟨_, TJ35, tyJ35, rfl, in_J35, ty_J35, q2036, q2037, q188, fun j hj => by match j, hj with | 0, _ => rfl | 1, _ => rfl | 2, _ => rfl | 3, _ => rfl | j + 4, h => exact absurd h (by omega)⟩
theorem kn_q2038 : kx_Nk "RoseProverbs" 342 25 0 [] := ⟨_, kx_T0, fun _ => .int, rfl, fun w hw => absurd hw List.not_mem_nil, fun j hj => absurd hj (Nat.not_lt_zero j), q2038, q2039, q189, fun j hj => absurd hj (Nat.not_lt_zero j)⟩
theorem kn_q2355 : kx_Nk "RoseProverbs" 178 2 11 [.int 0, .int 0, .int 0, .int 0, .int 0, .int 0, .int 0, .int 0, .int 0, .int 0, .int 0] := ⟨_, TX3, tyX3, rfl, in_X3, ty_X3, q2355, q673, q156, fun j hj => by match j, hj with | 0, _ => rfl | 1, _ => rfl | 2, _ => rfl | 3, _ => rfl | 4, _ => rfl | 5, _ => rfl | 6, _ => rfl | 7, _ => rfl | 8, _ => rfl | 9, _ => rfl | 10, _ => rfl | j + 11, h => exact absurd h (by omega)⟩
theorem kn_q2650 : kx_Nk "RoseProverbs$Rose$Speakers" 20 13 2 [.int 0, .null] := ⟨_, TX17, tyX17, rfl, in_X17, ty_X17, q2650, q2293, q186, fun j hj => by match j, hj with | 0, _ => rfl | 1, _ => rfl | j + 2, h => exact absurd h (by omega)⟩
theorem kn_q1070 : kx_Nk "RoseProverbs$Heavier" 8 2 11 [.int 0, .int 0, .int 0, .int 0, .int 0, .int 0, .int 0, .int 0, .int 0, .int 0, .int 0] := ⟨_, TX3, tyX3, rfl, in_X3, ty_X3, q1070, q673, q156, fun j hj => by match j, hj with | 0, _ => rfl | 1, _ => rfl | 2, _ => rfl | 3, _ => rfl | 4, _ => rfl | 5, _ => rfl | 6, _ => rfl | 7, _ => rfl | 8, _ => rfl | 9, _ => rfl | 10, _ => rfl | j + 11, h => exact absurd h (by omega)⟩
theorem kn_q216 : kx_Nk "RoseProverbs$Rose" 9 14 3 [.int 0, .null, .int 0] := ⟨_, TJ2, tyJ2, rfl, in_J2, ty_J2, q216, q217, q137, fun j hj => by match j, hj with | 0, _ => rfl | 1, _ => rfl | 2, _ => rfl | j + 3, h => exact absurd h (by omega)⟩
theorem kn_q567 : kx_Nk "RoseProverbs$Rose" 20 18 9 [.null, .null, .null, .null, .int 0, .int 0, .null, .null, .null] := ⟨_, TJ19, tyJ19, rfl, in_J19, ty_J19, q567, q568, q155, fun j hj => by match j, hj with | 0, _ => rfl | 1, _ => rfl | 2, _ => rfl | 3, _ => rfl | 4, _ => rfl | 5, _ => rfl | 6, _ => rfl | 7, _ => rfl | 8, _ => rfl | j + 9, h => exact absurd h (by omega)⟩
theorem kn_q672 : kx_Nk "RoseProverbs$Rose" 70 2 11 [.int 0, .int 0, .int 0, .int 0, .int 0, .int 0, .int 0, .int 0, .int 0, .int 0, .int 0] := ⟨_, TX3, tyX3, rfl, in_X3, ty_X3, q672, q673, q156, fun j hj => by match j, hj with | 0, _ => rfl | 1, _ => rfl | 2, _ => rfl | 3, _ => rfl | 4, _ => rfl | 5, _ => rfl | 6, _ => rfl | 7, _ => rfl | 8, _ => rfl | 9, _ => rfl | 10, _ => rfl | j + 11, h => exact absurd h (by omega)⟩
theorem kn_q1143 : kx_Nk "RoseProverbs$Rose" 15 1 14 [.null, .null, .null, .null, .null, .null, .null, .null, .null, .null, .null, .null, .null, .int 0] := ⟨_, TX2, tyX2, rfl, in_X2, ty_X2, q1143, q211, q134, fun j hj => by match j, hj with | 0, _ => rfl | 1, _ => rfl | 2, _ => rfl | 3, _ => rfl | 4, _ => rfl | 5, _ => rfl | 6, _ => rfl | 7, _ => rfl | 8, _ => rfl | 9, _ => rfl | 10, _ => rfl | 11, _ => rfl | 12, _ => rfl | 13, _ => rfl | j + 14, h => exact absurd h (by omega)⟩
theorem kn_q2627 : kx_Nk "RoseProverbs$Rose" 150 12 3 [.int 0, .int 0, .null] := ⟨_, TX16, tyX16, rfl, in_X16, ty_X16, q2627, q2628, q185, fun j hj => by match j, hj with | 0, _ => rfl | 1, _ => rfl | 2, _ => rfl | j + 3, h => exact absurd h (by omega)⟩
theorem kn_q1289 : kx_Nk "RoseProverbs$Parser" 40 15 4 [.null, .int 0, .int 0, .int 0] := ⟨_, TJ8, tyJ8, rfl, in_J8, ty_J8, q1289, q279, q143, fun j hj => by match j, hj with | 0, _ => rfl | 1, _ => rfl | 2, _ => rfl | 3, _ => rfl | j + 4, h => exact absurd h (by omega)⟩
theorem kn_q1460 : kx_Nk "RoseProverbs$Parser" 85 5 8 [.null, .null, .null, .null, .null, .int 0, .int 0, .int 0] := ⟨_, TX7, tyX7, rfl, in_X7, ty_X7, q1460, q1461, q171, fun j hj => by match j, hj with | 0, _ => rfl | 1, _ => rfl | 2, _ => rfl | 3, _ => rfl | 4, _ => rfl | 5, _ => rfl | 6, _ => rfl | 7, _ => rfl | j + 8, h => exact absurd h (by omega)⟩
theorem kn_q1397 : kx_Nk "RoseProverbs$Setup" 15 1 14 [.null, .null, .null, .null, .null, .null, .null, .null, .null, .null, .null, .null, .null, .int 0] := ⟨_, TX2, tyX2, rfl, in_X2, ty_X2, q1397, q211, q134, fun j hj => by match j, hj with | 0, _ => rfl | 1, _ => rfl | 2, _ => rfl | 3, _ => rfl | 4, _ => rfl | 5, _ => rfl | 6, _ => rfl | 7, _ => rfl | 8, _ => rfl | 9, _ => rfl | 10, _ => rfl | 11, _ => rfl | 12, _ => rfl | 13, _ => rfl | j + 14, h => exact absurd h (by omega)⟩
theorem kn_q1635 : kx_Nk "RoseProverbs$Script" 15 14 3 [.int 0, .null, .int 0] := ⟨_, TJ2, tyJ2, rfl, in_J2, ty_J2, q1635, q217, q137, fun j hj => by match j, hj with | 0, _ => rfl | 1, _ => rfl | 2, _ => rfl | j + 3, h => exact absurd h (by omega)⟩
theorem kn_q1690 : kx_Nk "RoseProverbs$Script" 50 7 3 [.int 0, .int 0, .null] := ⟨_, TX10, tyX10, rfl, in_X10, ty_X10, q1690, q1691, q174, fun j hj => by match j, hj with | 0, _ => rfl | 1, _ => rfl | 2, _ => rfl | j + 3, h => exact absurd h (by omega)⟩
theorem kn_q1716 : kx_Nk "RoseProverbs$Script" 58 8 2 [.null, .null] := ⟨_, TX11, tyX11, rfl, in_X11, ty_X11, q1716, q1717, q175, fun j hj => by match j, hj with | 0, _ => rfl | 1, _ => rfl | j + 2, h => exact absurd h (by omega)⟩
theorem kn_q1733 : kx_Nk "RoseProverbs$Script" 63 9 2 [.int 0, .null] := ⟨_, TX12, tyX12, rfl, in_X12, ty_X12, q1733, q1734, q176, fun j hj => by match j, hj with | 0, _ => rfl | 1, _ => rfl | j + 2, h => exact absurd h (by omega)⟩
theorem kn_q1750 : kx_Nk "RoseProverbs$Script" 68 10 3 [.int 0, .int 0, .null] := ⟨_, TX13, tyX13, rfl, in_X13, ty_X13, q1750, q1751, q177, fun j hj => by match j, hj with | 0, _ => rfl | 1, _ => rfl | 2, _ => rfl | j + 3, h => exact absurd h (by omega)⟩
theorem kn_q1771 : kx_Nk "RoseProverbs$Script" 75 11 3 [.int 0, .int 0, .null] := ⟨_, TX14, tyX14, rfl, in_X14, ty_X14, q1771, q1772, q178, fun j hj => by match j, hj with | 0, _ => rfl | 1, _ => rfl | 2, _ => rfl | j + 3, h => exact absurd h (by omega)⟩
theorem km_J0_init : kx_mi yJ0_init cJ0_init 1 none 0 := ⟨q225, q135, q226, by decide +kernel, by decide +kernel, by decide +kernel⟩
theorem km_J1_init : kx_mi yJ1_init cJ1_init 1 none 0 := ⟨q222, q136, q223, by decide +kernel, by decide +kernel, by decide +kernel⟩
theorem km_J10_newBytesFor : kx_ms yJ10_newBytesFor cJ10_newBytesFor 1 (some (.array .byte)) 1 := ⟨q290, q145, q291, by decide +kernel, by decide +kernel, by decide +kernel⟩
theorem km_J10_newBytesLength : kx_ms yJ10_newBytesLength cJ10_newBytesLength 1 (some .int) 1 := ⟨q293, q145, q294, by decide +kernel, by decide +kernel, by decide +kernel⟩
theorem km_J10_putCharsAt : kx_ms yJ10_putCharsAt cJ10_putCharsAt 7 (some .int) 6 := ⟨q364, q145, q365, by decide +kernel, by decide +kernel, by decide +kernel⟩
theorem km_J10_checkBoundsBeginEnd : kx_ms yJ10_checkBoundsBeginEnd cJ10_checkBoundsBeginEnd 3 none 3 := ⟨q367, q145, q368, by decide +kernel, by decide +kernel, by decide +kernel⟩
theorem km_J10_length : kx_ms yJ10_length cJ10_length 1 (some .int) 1 := ⟨q370, q145, q371, by decide +kernel, by decide +kernel, by decide +kernel⟩
theorem km_J10_putChar : kx_ms yJ10_putChar cJ10_putChar 3 none 3 := ⟨q381, q145, q382, by decide +kernel, by decide +kernel, by decide +kernel⟩
theorem km_J10_inflate : kx_ms yJ10_inflate cJ10_inflate 6 none 5 := ⟨q415, q145, q416, by decide +kernel, by decide +kernel, by decide +kernel⟩
theorem km_J10_checkBoundsOffCount : kx_ms yJ10_checkBoundsOffCount cJ10_checkBoundsOffCount 3 none 3 := ⟨q418, q145, q419, by decide +kernel, by decide +kernel, by decide +kernel⟩
theorem km_J10_getChars : kx_ms yJ10_getChars cJ10_getChars 5 (some .int) 4 := ⟨q450, q145, q451, by decide +kernel, by decide +kernel, by decide +kernel⟩
theorem km_J10_getChars_2 : kx_ms yJ10_getChars_2 cJ10_getChars_2 7 (some .int) 3 := ⟨q453, q145, q454, by decide +kernel, by decide +kernel, by decide +kernel⟩
theorem km_J10_compress : kx_ms yJ10_compress cJ10_compress 6 (some (.array .byte)) 3 := ⟨q526, q145, q527, by decide +kernel, by decide +kernel, by decide +kernel⟩
theorem km_J10_compress_2 : kx_ms yJ10_compress_2 cJ10_compress_2 7 (some .int) 5 := ⟨q529, q145, q530, by decide +kernel, by decide +kernel, by decide +kernel⟩
theorem km_J10_getChar : kx_ms yJ10_getChar cJ10_getChar 2 (some .char) 2 := ⟨q532, q145, q533, by decide +kernel, by decide +kernel, by decide +kernel⟩
theorem km_J10_coderFromArrayLen : kx_ms yJ10_coderFromArrayLen cJ10_coderFromArrayLen 2 (some .byte) 2 := ⟨q536, q145, q537, by decide +kernel, by decide +kernel, by decide +kernel⟩
theorem km_J10_compareTo : kx_ms yJ10_compareTo cJ10_compareTo 4 (some .int) 2 := ⟨q1007, q145, q1008, by decide +kernel, by decide +kernel, by decide +kernel⟩
theorem km_J10_compareValues : kx_ms yJ10_compareValues cJ10_compareValues 8 (some .int) 4 := ⟨q1010, q145, q1011, by decide +kernel, by decide +kernel, by decide +kernel⟩
theorem km_J10_compareToLatin1 : kx_ms yJ10_compareToLatin1 cJ10_compareToLatin1 2 (some .int) 2 := ⟨q1025, q145, q1026, by decide +kernel, by decide +kernel, by decide +kernel⟩
theorem km_J10_compareTo_2 : kx_ms yJ10_compareTo_2 cJ10_compareTo_2 4 (some .int) 4 := ⟨q1044, q145, q1045, by decide +kernel, by decide +kernel, by decide +kernel⟩
theorem km_J10_checkOffset : kx_ms yJ10_checkOffset cJ10_checkOffset 2 none 2 := ⟨q1047, q145, q1048, by decide +kernel, by decide +kernel, by decide +kernel⟩
theorem km_J10_compareToLatin1_2 : kx_ms yJ10_compareToLatin1_2 cJ10_compareToLatin1_2 4 (some .int) 4 := ⟨q1057, q145, q1058, by decide +kernel, by decide +kernel, by decide +kernel⟩
theorem km_J10_putCharSB : kx_ms yJ10_putCharSB cJ10_putCharSB 3 none 3 := ⟨q1302, q145, q1303, by decide +kernel, by decide +kernel, by decide +kernel⟩
theorem km_J10_checkIndex : kx_ms yJ10_checkIndex cJ10_checkIndex 2 none 2 := ⟨q1305, q145, q1306, by decide +kernel, by decide +kernel, by decide +kernel⟩
theorem km_J10_charAt : kx_ms yJ10_charAt cJ10_charAt 2 (some .char) 2 := ⟨q1361, q145, q1362, by decide +kernel, by decide +kernel, by decide +kernel⟩
theorem km_J10_hashCode : kx_ms yJ10_hashCode cJ10_hashCode 1 (some .int) 1 := ⟨q1592, q145, q1593, by decide +kernel, by decide +kernel, by decide +kernel⟩
theorem km_J10_fillNull : kx_ms yJ10_fillNull cJ10_fillNull 3 none 3 := ⟨q2933, q145, q2934, by decide +kernel, by decide +kernel, by decide +kernel⟩
theorem km_J11_newLength : kx_ms yJ11_newLength cJ11_newLength 4 (some .int) 3 := ⟨q332, q146, q333, by decide +kernel, by decide +kernel, by decide +kernel⟩
theorem km_J11_hugeLength : kx_ms yJ11_hugeLength cJ11_hugeLength 3 (some .int) 2 := ⟨q339, q146, q340, by decide +kernel, by decide +kernel, by decide +kernel⟩
theorem km_J11_mismatch : kx_ms yJ11_mismatch cJ11_mismatch 4 (some .int) 3 := ⟨q900, q146, q901, by decide +kernel, by decide +kernel, by decide +kernel⟩
theorem km_J11_vectorizedMismatch : kx_ms yJ11_vectorizedMismatch cJ11_vectorizedMismatch 19 (some .int) 6 := ⟨q907, q146, q908, by decide +kernel, by decide +kernel, by decide +kernel⟩
theorem km_J11_vectorizedHashCode : kx_ms yJ11_vectorizedHashCode cJ11_vectorizedHashCode 5 (some .int) 5 := ⟨q1546, q146, q1547, by decide +kernel, by decide +kernel, by decide +kernel⟩
theorem km_J11_signedHashCode : kx_ms yJ11_signedHashCode cJ11_signedHashCode 6 (some .int) 4 := ⟨q1550, q146, q1551, by decide +kernel, by decide +kernel, by decide +kernel⟩
theorem km_J11_utf16hashCode : kx_ms yJ11_utf16hashCode cJ11_utf16hashCode 6 (some .int) 4 := ⟨q1553, q146, q1554, by decide +kernel, by decide +kernel, by decide +kernel⟩
theorem km_J11_hashCode : kx_ms yJ11_hashCode cJ11_hashCode 6 (some .int) 4 := ⟨q1570, q146, q1571, by decide +kernel, by decide +kernel, by decide +kernel⟩
theorem km_J11_hashCode_2 : kx_ms yJ11_hashCode_2 cJ11_hashCode_2 6 (some .int) 4 := ⟨q1573, q146, q1574, by decide +kernel, by decide +kernel, by decide +kernel⟩
theorem km_J11_hashCode_3 : kx_ms yJ11_hashCode_3 cJ11_hashCode_3 6 (some .int) 4 := ⟨q1577, q146, q1578, by decide +kernel, by decide +kernel, by decide +kernel⟩
theorem km_J11_hashCode_4 : kx_ms yJ11_hashCode_4 cJ11_hashCode_4 6 (some .int) 4 := ⟨q1581, q146, q1582, by decide +kernel, by decide +kernel, by decide +kernel⟩
theorem km_J12_max : kx_ms yJ12_max cJ12_max 2 (some .int) 2 := ⟨q335, q147, q336, by decide +kernel, by decide +kernel, by decide +kernel⟩
theorem km_J12_min : kx_ms yJ12_min cJ12_min 2 (some .int) 2 := ⟨q353, q147, q354, by decide +kernel, by decide +kernel, by decide +kernel⟩
theorem km_J12_floorMod : kx_ms yJ12_floorMod cJ12_floorMod 3 (some .int) 2 := ⟨q3233, q147, q3234, by decide +kernel, by decide +kernel, by decide +kernel⟩
theorem km_J13_copyOf : kx_ms yJ13_copyOf cJ13_copyOf 3 (some (.array .byte)) 2 := ⟨q343, q148, q344, by decide +kernel, by decide +kernel, by decide +kernel⟩
theorem km_J13_copyOfRange : kx_ms yJ13_copyOfRange cJ13_copyOfRange 3 (some (.array .byte)) 3 := ⟨q485, q148, q486, by decide +kernel, by decide +kernel, by decide +kernel⟩
theorem km_J13_copyOfRangeByte : kx_ms yJ13_copyOfRangeByte cJ13_copyOfRangeByte 5 (some (.array .byte)) 3 := ⟨q488, q148, q489, by decide +kernel, by decide +kernel, by decide +kernel⟩
theorem km_J13_checkLength : kx_ms yJ13_checkLength cJ13_checkLength 2 none 2 := ⟨q491, q148, q492, by decide +kernel, by decide +kernel, by decide +kernel⟩
theorem km_J13_copyOf_2 : kx_ms yJ13_copyOf_2 cJ13_copyOf_2 2 (some (.array (.object "java/lang/Object"))) 2 := ⟨q770, q148, q771, by decide +kernel, by decide +kernel, by decide +kernel⟩
theorem km_J13_copyOf_3 : kx_ms yJ13_copyOf_3 cJ13_copyOf_3 4 (some (.array (.object "java/lang/Object"))) 3 := ⟨q818, q148, q819, by decide +kernel, by decide +kernel, by decide +kernel⟩
theorem km_J13_fill : kx_ms yJ13_fill cJ13_fill 5 none 4 := ⟨q2914, q148, q2915, by decide +kernel, by decide +kernel, by decide +kernel⟩
theorem km_J13_rangeCheck : kx_ms yJ13_rangeCheck cJ13_rangeCheck 3 none 3 := ⟨q2917, q148, q2918, by decide +kernel, by decide +kernel, by decide +kernel⟩
theorem km_J14_checkFromToIndex : kx_ms yJ14_checkFromToIndex cJ14_checkFromToIndex 4 (some .int) 4 := ⟨q378, q150, q379, by decide +kernel, by decide +kernel, by decide +kernel⟩
theorem km_J14_checkFromIndexSize : kx_ms yJ14_checkFromIndexSize cJ14_checkFromIndexSize 4 (some .int) 4 := ⟨q424, q150, q425, by decide +kernel, by decide +kernel, by decide +kernel⟩
theorem km_J14_checkIndex : kx_ms yJ14_checkIndex cJ14_checkIndex 3 (some .int) 3 := ⟨q1162, q150, q1163, by decide +kernel, by decide +kernel, by decide +kernel⟩
theorem km_J15_inflate : kx_ms yJ15_inflate cJ15_inflate 5 none 5 := ⟨q412, q151, q413, by decide +kernel, by decide +kernel, by decide +kernel⟩
theorem km_J15_compareTo : kx_ms yJ15_compareTo cJ15_compareTo 4 (some .int) 2 := ⟨q893, q151, q894, by decide +kernel, by decide +kernel, by decide +kernel⟩
theorem km_J15_compareTo_2 : kx_ms yJ15_compareTo_2 cJ15_compareTo_2 6 (some .int) 4 := ⟨q896, q151, q897, by decide +kernel, by decide +kernel, by decide +kernel⟩
theorem km_J15_getChar : kx_ms yJ15_getChar cJ15_getChar 2 (some .char) 2 := ⟨q1004, q151, q1005, by decide +kernel, by decide +kernel, by decide +kernel⟩
theorem km_J15_compareToUTF16 : kx_ms yJ15_compareToUTF16 cJ15_compareToUTF16 4 (some .int) 2 := ⟨q1014, q151, q1015, by decide +kernel, by decide +kernel, by decide +kernel⟩
theorem km_J15_length : kx_ms yJ15_length cJ15_length 1 (some .int) 1 := ⟨q1017, q151, q1018, by decide +kernel, by decide +kernel, by decide +kernel⟩
theorem km_J15_compareToUTF16Values : kx_ms yJ15_compareToUTF16Values cJ15_compareToUTF16Values 8 (some .int) 4 := ⟨q1021, q151, q1022, by decide +kernel, by decide +kernel, by decide +kernel⟩
theorem km_J15_compareToUTF16_2 : kx_ms yJ15_compareToUTF16_2 cJ15_compareToUTF16_2 4 (some .int) 4 := ⟨q1053, q151, q1054, by decide +kernel, by decide +kernel, by decide +kernel⟩
theorem km_J15_canEncode : kx_ms yJ15_canEncode cJ15_canEncode 1 (some .boolean) 1 := ⟨q1299, q151, q1300, by decide +kernel, by decide +kernel, by decide +kernel⟩
theorem km_J15_charAt : kx_ms yJ15_charAt cJ15_charAt 2 (some .char) 2 := ⟨q1357, q151, q1358, by decide +kernel, by decide +kernel, by decide +kernel⟩
theorem km_J15_equals : kx_ms yJ15_equals cJ15_equals 3 (some .boolean) 2 := ⟨q1446, q151, q1447, by decide +kernel, by decide +kernel, by decide +kernel⟩
theorem km_J15_hashCode : kx_ms yJ15_hashCode cJ15_hashCode 1 (some .int) 1 := ⟨q1543, q151, q1544, by decide +kernel, by decide +kernel, by decide +kernel⟩
theorem km_J15_fillNull : kx_ms yJ15_fillNull cJ15_fillNull 3 none 3 := ⟨q2911, q151, q2912, by decide +kernel, by decide +kernel, by decide +kernel⟩
theorem km_J16_init : kx_mi yJ16_init cJ16_init 1 none 0 := ⟨q840, q152, q841, by decide +kernel, by decide +kernel, by decide +kernel⟩
theorem km_J17_stringSize : kx_ms yJ17_stringSize cJ17_stringSize 4 (some .int) 1 := ⟨q440, q153, q441, by decide +kernel, by decide +kernel, by decide +kernel⟩
theorem km_J17_getChars : kx_ms yJ17_getChars cJ17_getChars 7 (some .int) 3 := ⟨q443, q153, q444, by decide +kernel, by decide +kernel, by decide +kernel⟩
theorem km_J17_valueOf : kx_ms yJ17_valueOf cJ17_valueOf 1 (some (.object "java/lang/Integer")) 1 := ⟨q828, q153, q829, by decide +kernel, by decide +kernel, by decide +kernel⟩
theorem km_J17_init : kx_mi yJ17_init cJ17_init 2 none 1 := ⟨q837, q153, q838, by decide +kernel, by decide +kernel, by decide +kernel⟩
theorem km_J17_compareTo : kx_mi yJ17_compareTo cJ17_compareTo 2 (some .int) 1 := ⟨q871, q153, q873, by decide +kernel, by decide +kernel, by decide +kernel⟩
theorem km_J17_compareTo_2 : kx_mi yJ17_compareTo_2 cJ17_compareTo_2 2 (some .int) 1 := ⟨q875, q153, q877, by decide +kernel, by decide +kernel, by decide +kernel⟩
theorem km_J17_compare : kx_ms yJ17_compare cJ17_compare 2 (some .int) 2 := ⟨q879, q153, q880, by decide +kernel, by decide +kernel, by decide +kernel⟩
theorem km_J17_numberOfLeadingZeros : kx_ms yJ17_numberOfLeadingZeros cJ17_numberOfLeadingZeros 2 (some .int) 1 := ⟨q971, q153, q972, by decide +kernel, by decide +kernel, by decide +kernel⟩
theorem km_J17_numberOfTrailingZeros : kx_ms yJ17_numberOfTrailingZeros cJ17_numberOfTrailingZeros 2 (some .int) 1 := ⟨q980, q153, q981, by decide +kernel, by decide +kernel, by decide +kernel⟩
theorem km_J17_parseInt : kx_ms yJ17_parseInt cJ17_parseInt 1 (some .int) 1 := ⟨q1315, q153, q1316, by decide +kernel, by decide +kernel, by decide +kernel⟩
theorem km_J17_parseInt_2 : kx_ms yJ17_parseInt_2 cJ17_parseInt_2 10 (some .int) 2 := ⟨q1318, q153, q1319, by decide +kernel, by decide +kernel, by decide +kernel⟩
theorem km_J18_init : kx_mi yJ18_init cJ18_init 1 none 0 := ⟨q573, q154, q574, by decide +kernel, by decide +kernel, by decide +kernel⟩
theorem km_J18_isEmpty : kx_mi yJ18_isEmpty cJ18_isEmpty 1 (some .boolean) 0 := ⟨q2473, q154, q2474, by decide +kernel, by decide +kernel, by decide +kernel⟩
theorem km_J19_init : kx_mi yJ19_init cJ19_init 1 none 0 := ⟨q570, q155, q571, by decide +kernel, by decide +kernel, by decide +kernel⟩
theorem km_J19_put : kx_mi yJ19_put cJ19_put 3 (some (.object "java/lang/Object")) 2 := ⟨q848, q155, q850, by decide +kernel, by decide +kernel, by decide +kernel⟩
theorem km_J19_put_2 : kx_mi yJ19_put_2 cJ19_put_2 10 (some (.object "java/lang/Object")) 3 := ⟨q853, q155, q854, by decide +kernel, by decide +kernel, by decide +kernel⟩
theorem km_J19_addEntryToEmptyMap : kx_mi yJ19_addEntryToEmptyMap cJ19_addEntryToEmptyMap 3 none 2 := ⟨q857, q155, q858, by decide +kernel, by decide +kernel, by decide +kernel⟩
theorem km_J19_compare : kx_mi yJ19_compare cJ19_compare 3 (some .int) 2 := ⟨q860, q155, q862, by decide +kernel, by decide +kernel, by decide +kernel⟩
theorem km_J19_addEntry : kx_mi yJ19_addEntry cJ19_addEntry 6 none 4 := ⟨q1110, q155, q1111, by decide +kernel, by decide +kernel, by decide +kernel⟩
theorem km_J19_fixAfterInsertion : kx_mi yJ19_fixAfterInsertion cJ19_fixAfterInsertion 3 none 1 := ⟨q1114, q155, q1115, by decide +kernel, by decide +kernel, by decide +kernel⟩
theorem km_J19_parentOf : kx_ms yJ19_parentOf cJ19_parentOf 1 (some (.object "java/util/TreeMap$Entry")) 1 := ⟨q1117, q155, q1118, by decide +kernel, by decide +kernel, by decide +kernel⟩
theorem km_J19_leftOf : kx_ms yJ19_leftOf cJ19_leftOf 1 (some (.object "java/util/TreeMap$Entry")) 1 := ⟨q1120, q155, q1121, by decide +kernel, by decide +kernel, by decide +kernel⟩
theorem km_J19_rightOf : kx_ms yJ19_rightOf cJ19_rightOf 1 (some (.object "java/util/TreeMap$Entry")) 1 := ⟨q1123, q155, q1124, by decide +kernel, by decide +kernel, by decide +kernel⟩
theorem km_J19_colorOf : kx_ms yJ19_colorOf cJ19_colorOf 1 (some .boolean) 1 := ⟨q1126, q155, q1127, by decide +kernel, by decide +kernel, by decide +kernel⟩
theorem km_J19_setColor : kx_ms yJ19_setColor cJ19_setColor 2 none 2 := ⟨q1129, q155, q1130, by decide +kernel, by decide +kernel, by decide +kernel⟩
theorem km_J19_rotateLeft : kx_mi yJ19_rotateLeft cJ19_rotateLeft 3 none 1 := ⟨q1133, q155, q1134, by decide +kernel, by decide +kernel, by decide +kernel⟩
theorem km_J19_rotateRight : kx_mi yJ19_rotateRight cJ19_rotateRight 3 none 1 := ⟨q1137, q155, q1138, by decide +kernel, by decide +kernel, by decide +kernel⟩
theorem km_J19_containsKey : kx_mi yJ19_containsKey cJ19_containsKey 2 (some .boolean) 1 := ⟨q1519, q155, q1521, by decide +kernel, by decide +kernel, by decide +kernel⟩
theorem km_J19_getEntry : kx_mi yJ19_getEntry cJ19_getEntry 5 (some (.object "java/util/TreeMap$Entry")) 1 := ⟨q1523, q155, q1525, by decide +kernel, by decide +kernel, by decide +kernel⟩
theorem km_J19_getEntryUsingComparator : kx_mi yJ19_getEntryUsingComparator cJ19_getEntryUsingComparator 6 (some (.object "java/util/TreeMap$Entry")) 1 := ⟨q1527, q155, q1529, by decide +kernel, by decide +kernel, by decide +kernel⟩
theorem km_J19_remove : kx_mi yJ19_remove cJ19_remove 4 (some (.object "java/lang/Object")) 1 := ⟨q1989, q155, q1991, by decide +kernel, by decide +kernel, by decide +kernel⟩
theorem km_J19_deleteEntry : kx_mi yJ19_deleteEntry cJ19_deleteEntry 3 none 1 := ⟨q1994, q155, q1995, by decide +kernel, by decide +kernel, by decide +kernel⟩
theorem km_J19_successor : kx_ms yJ19_successor cJ19_successor 3 (some (.object "java/util/TreeMap$Entry")) 1 := ⟨q1997, q155, q1998, by decide +kernel, by decide +kernel, by decide +kernel⟩
theorem km_J19_fixAfterDeletion : kx_mi yJ19_fixAfterDeletion cJ19_fixAfterDeletion 3 none 1 := ⟨q2001, q155, q2002, by decide +kernel, by decide +kernel, by decide +kernel⟩
theorem km_J19_size : kx_mi yJ19_size cJ19_size 1 (some .int) 0 := ⟨q2004, q155, q2006, by decide +kernel, by decide +kernel, by decide +kernel⟩
theorem km_J19_values : kx_mi yJ19_values cJ19_values 2 (some (.object "java/util/Collection")) 0 := ⟨q2078, q155, q2080, by decide +kernel, by decide +kernel, by decide +kernel⟩
theorem km_J19_getFirstEntry : kx_mi yJ19_getFirstEntry cJ19_getFirstEntry 2 (some (.object "java/util/TreeMap$Entry")) 0 := ⟨q2186, q155, q2188, by decide +kernel, by decide +kernel, by decide +kernel⟩
theorem km_J2_init : kx_mi yJ2_init cJ2_init 2 none 1 := ⟨q219, q137, q220, by decide +kernel, by decide +kernel, by decide +kernel⟩
theorem km_J2_size : kx_mi yJ2_size cJ2_size 1 (some .int) 0 := ⟨q681, q137, q683, by decide +kernel, by decide +kernel, by decide +kernel⟩
theorem km_J2_add : kx_mi yJ2_add cJ2_add 2 (some .boolean) 1 := ⟨q751, q137, q753, by decide +kernel, by decide +kernel, by decide +kernel⟩
theorem km_J2_add_2 : kx_mi yJ2_add_2 cJ2_add_2 4 none 3 := ⟨q756, q137, q757, by decide +kernel, by decide +kernel, by decide +kernel⟩
theorem km_J2_grow : kx_mi yJ2_grow cJ2_grow 1 (some (.array (.object "java/lang/Object"))) 0 := ⟨q760, q137, q761, by decide +kernel, by decide +kernel, by decide +kernel⟩
theorem km_J2_grow_2 : kx_mi yJ2_grow_2 cJ2_grow_2 4 (some (.array (.object "java/lang/Object"))) 1 := ⟨q764, q137, q765, by decide +kernel, by decide +kernel, by decide +kernel⟩
theorem km_J2_get : kx_mi yJ2_get cJ2_get 2 (some (.object "java/lang/Object")) 1 := ⟨q1155, q137, q1157, by decide +kernel, by decide +kernel, by decide +kernel⟩
theorem km_J2_elementData : kx_mi yJ2_elementData cJ2_elementData 2 (some (.object "java/lang/Object")) 1 := ⟨q1165, q137, q1167, by decide +kernel, by decide +kernel, by decide +kernel⟩
theorem km_J2_iterator : kx_mi yJ2_iterator cJ2_iterator 1 (some (.object "java/util/Iterator")) 0 := ⟨q2124, q137, q2126, by decide +kernel, by decide +kernel, by decide +kernel⟩
theorem km_J20_getLongUnaligned : kx_mi yJ20_getLongUnaligned cJ20_getLongUnaligned 4 (some .long) 2 := ⟨q914, q158, q916, by decide +kernel, by decide +kernel, by decide +kernel⟩
theorem km_J20_makeLong : kx_ms yJ20_makeLong cJ20_makeLong 2 (some .long) 2 := ⟨q929, q158, q930, by decide +kernel, by decide +kernel, by decide +kernel⟩
theorem km_J20_toUnsignedLong : kx_ms yJ20_toUnsignedLong cJ20_toUnsignedLong 1 (some .long) 1 := ⟨q932, q158, q933, by decide +kernel, by decide +kernel, by decide +kernel⟩
theorem km_J20_pickPos : kx_ms yJ20_pickPos cJ20_pickPos 2 (some .int) 2 := ⟨q936, q158, q937, by decide +kernel, by decide +kernel, by decide +kernel⟩
theorem km_J20_makeLong_2 : kx_ms yJ20_makeLong_2 cJ20_makeLong_2 4 (some .long) 4 := ⟨q947, q158, q948, by decide +kernel, by decide +kernel, by decide +kernel⟩
theorem km_J20_toUnsignedLong_2 : kx_ms yJ20_toUnsignedLong_2 cJ20_toUnsignedLong_2 1 (some .long) 1 := ⟨q950, q158, q951, by decide +kernel, by decide +kernel, by decide +kernel⟩
theorem km_J20_makeLong_3 : kx_ms yJ20_makeLong_3 cJ20_makeLong_3 8 (some .long) 8 := ⟨q959, q158, q960, by decide +kernel, by decide +kernel, by decide +kernel⟩
theorem km_J20_toUnsignedLong_3 : kx_ms yJ20_toUnsignedLong_3 cJ20_toUnsignedLong_3 1 (some .long) 1 := ⟨q962, q158, q963, by decide +kernel, by decide +kernel, by decide +kernel⟩
theorem km_J20_getIntUnaligned : kx_mi yJ20_getIntUnaligned cJ20_getIntUnaligned 4 (some .int) 2 := ⟨q985, q158, q987, by decide +kernel, by decide +kernel, by decide +kernel⟩
theorem km_J20_makeInt : kx_ms yJ20_makeInt cJ20_makeInt 2 (some .int) 2 := ⟨q989, q158, q990, by decide +kernel, by decide +kernel, by decide +kernel⟩
theorem km_J20_toUnsignedInt : kx_ms yJ20_toUnsignedInt cJ20_toUnsignedInt 1 (some .int) 1 := ⟨q992, q158, q993, by decide +kernel, by decide +kernel, by decide +kernel⟩
theorem km_J20_makeInt_2 : kx_ms yJ20_makeInt_2 cJ20_makeInt_2 4 (some .int) 4 := ⟨q996, q158, q997, by decide +kernel, by decide +kernel, by decide +kernel⟩
theorem km_J20_toUnsignedInt_2 : kx_ms yJ20_toUnsignedInt_2 cJ20_toUnsignedInt_2 1 (some .int) 1 := ⟨q999, q158, q1000, by decide +kernel, by decide +kernel, by decide +kernel⟩
theorem km_J21_numberOfLeadingZeros : kx_ms yJ21_numberOfLeadingZeros cJ21_numberOfLeadingZeros 3 (some .int) 1 := ⟨q968, q160, q969, by decide +kernel, by decide +kernel, by decide +kernel⟩
theorem km_J21_numberOfTrailingZeros : kx_ms yJ21_numberOfTrailingZeros cJ21_numberOfTrailingZeros 3 (some .int) 1 := ⟨q977, q160, q978, by decide +kernel, by decide +kernel, by decide +kernel⟩
theorem km_J22_init : kx_mi yJ22_init cJ22_init 4 none 3 := ⟨q1078, q161, q1079, by decide +kernel, by decide +kernel, by decide +kernel⟩
theorem km_J23_requireNonNull : kx_ms yJ23_requireNonNull cJ23_requireNonNull 1 (some (.object "java/lang/Object")) 1 := ⟨q1106, q162, q1107, by decide +kernel, by decide +kernel, by decide +kernel⟩
theorem km_J23_checkIndex : kx_ms yJ23_checkIndex cJ23_checkIndex 2 (some .int) 2 := ⟨q1159, q162, q1160, by decide +kernel, by decide +kernel, by decide +kernel⟩
theorem km_J24_init : kx_mi yJ24_init cJ24_init 1 none 0 := ⟨q1185, q163, q1186, by decide +kernel, by decide +kernel, by decide +kernel⟩
theorem km_J24_clear : kx_mi yJ24_clear cJ24_clear 1 none 0 := ⟨q1613, q163, q1615, by decide +kernel, by decide +kernel, by decide +kernel⟩
theorem km_J24_circularClear : kx_ms yJ24_circularClear cJ24_circularClear 4 none 3 := ⟨q1617, q163, q1618, by decide +kernel, by decide +kernel, by decide +kernel⟩
theorem km_J24_size : kx_mi yJ24_size cJ24_size 1 (some .int) 0 := ⟨q1801, q163, q1803, by decide +kernel, by decide +kernel, by decide +kernel⟩
theorem km_J24_sub : kx_ms yJ24_sub cJ24_sub 3 (some .int) 3 := ⟨q1805, q163, q1806, by decide +kernel, by decide +kernel, by decide +kernel⟩
theorem km_J24_removeFirst : kx_mi yJ24_removeFirst cJ24_removeFirst 2 (some (.object "java/lang/Object")) 0 := ⟨q1808, q163, q1810, by decide +kernel, by decide +kernel, by decide +kernel⟩
theorem km_J24_pollFirst : kx_mi yJ24_pollFirst cJ24_pollFirst 4 (some (.object "java/lang/Object")) 0 := ⟨q1812, q163, q1814, by decide +kernel, by decide +kernel, by decide +kernel⟩
theorem km_J24_elementAt : kx_ms yJ24_elementAt cJ24_elementAt 2 (some (.object "java/lang/Object")) 2 := ⟨q1816, q163, q1817, by decide +kernel, by decide +kernel, by decide +kernel⟩
theorem km_J24_inc : kx_ms yJ24_inc cJ24_inc 2 (some .int) 2 := ⟨q1819, q163, q1820, by decide +kernel, by decide +kernel, by decide +kernel⟩
theorem km_J24_addLast : kx_mi yJ24_addLast cJ24_addLast 3 none 1 := ⟨q1843, q163, q1845, by decide +kernel, by decide +kernel, by decide +kernel⟩
theorem km_J24_grow : kx_mi yJ24_grow cJ24_grow 9 none 1 := ⟨q1848, q163, q1849, by decide +kernel, by decide +kernel, by decide +kernel⟩
theorem km_J24_newCapacity : kx_mi yJ24_newCapacity cJ24_newCapacity 5 (some .int) 2 := ⟨q1853, q163, q1854, by decide +kernel, by decide +kernel, by decide +kernel⟩
theorem km_J24_iterator : kx_mi yJ24_iterator cJ24_iterator 1 (some (.object "java/util/Iterator")) 0 := ⟨q2098, q163, q2100, by decide +kernel, by decide +kernel, by decide +kernel⟩
theorem km_J24_isEmpty : kx_mi yJ24_isEmpty cJ24_isEmpty 1 (some .boolean) 0 := ⟨q2258, q163, q2260, by decide +kernel, by decide +kernel, by decide +kernel⟩
theorem km_J24_nonNullElementAt : kx_ms yJ24_nonNullElementAt cJ24_nonNullElementAt 3 (some (.object "java/lang/Object")) 2 := ⟨q2304, q163, q2305, by decide +kernel, by decide +kernel, by decide +kernel⟩
theorem km_J24_poll : kx_mi yJ24_poll cJ24_poll 1 (some (.object "java/lang/Object")) 0 := ⟨q2324, q163, q2326, by decide +kernel, by decide +kernel, by decide +kernel⟩
theorem km_J24_removeLast : kx_mi yJ24_removeLast cJ24_removeLast 2 (some (.object "java/lang/Object")) 0 := ⟨q2867, q163, q2869, by decide +kernel, by decide +kernel, by decide +kernel⟩
theorem km_J24_pollLast : kx_mi yJ24_pollLast cJ24_pollLast 4 (some (.object "java/lang/Object")) 0 := ⟨q2871, q163, q2873, by decide +kernel, by decide +kernel, by decide +kernel⟩
theorem km_J24_dec : kx_ms yJ24_dec cJ24_dec 2 (some .int) 2 := ⟨q2875, q163, q2876, by decide +kernel, by decide +kernel, by decide +kernel⟩
theorem km_J25_init : kx_mi yJ25_init cJ25_init 2 none 1 := ⟨q1333, q167, q1334, by decide +kernel, by decide +kernel, by decide +kernel⟩
theorem km_J25_forInputString : kx_ms yJ25_forInputString cJ25_forInputString 2 (some (.object "java/lang/NumberFormatException")) 2 := ⟨q1365, q167, q1366, by decide +kernel, by decide +kernel, by decide +kernel⟩
theorem km_J26_digit : kx_ms yJ26_digit cJ26_digit 2 (some .int) 2 := ⟨q1379, q168, q1380, by decide +kernel, by decide +kernel, by decide +kernel⟩
theorem km_J26_digit_2 : kx_ms yJ26_digit_2 cJ26_digit_2 2 (some .int) 2 := ⟨q1382, q168, q1383, by decide +kernel, by decide +kernel, by decide +kernel⟩
theorem km_J27_of : kx_ms yJ27_of cJ27_of 1 (some (.object "java/lang/CharacterData")) 1 := ⟨q1385, q169, q1386, by decide +kernel, by decide +kernel, by decide +kernel⟩
theorem km_J28_digit : kx_mi yJ28_digit cJ28_digit 4 (some .int) 2 := ⟨q1393, q170, q1394, by decide +kernel, by decide +kernel, by decide +kernel⟩
theorem km_J29_init : kx_mi yJ29_init cJ29_init 1 none 0 := ⟨q1831, q179, q1832, by decide +kernel, by decide +kernel, by decide +kernel⟩
theorem km_J3_init : kx_mi yJ3_init cJ3_init 1 none 0 := ⟨q255, q138, q256, by decide +kernel, by decide +kernel, by decide +kernel⟩
theorem km_J3_init_2 : kx_mi yJ3_init_2 cJ3_init_2 2 none 1 := ⟨q510, q138, q511, by decide +kernel, by decide +kernel, by decide +kernel⟩
theorem km_J3_init_3 : kx_mi yJ3_init_3 cJ3_init_3 5 none 4 := ⟨q1476, q138, q1477, by decide +kernel, by decide +kernel, by decide +kernel⟩
theorem km_J30_init : kx_mi yJ30_init cJ30_init 2 none 1 := ⟨q1866, q180, q1867, by decide +kernel, by decide +kernel, by decide +kernel⟩
theorem km_J30_init_2 : kx_mi yJ30_init_2 cJ30_init_2 1 none 0 := ⟨q2821, q180, q2822, by decide +kernel, by decide +kernel, by decide +kernel⟩
theorem km_J31_init : kx_mi yJ31_init cJ31_init 2 none 1 := ⟨q2130, q182, q2131, by decide +kernel, by decide +kernel, by decide +kernel⟩
theorem km_J31_hasNext : kx_mi yJ31_hasNext cJ31_hasNext 1 (some .boolean) 0 := ⟨q2248, q182, q2250, by decide +kernel, by decide +kernel, by decide +kernel⟩
theorem km_J31_next : kx_mi yJ31_next cJ31_next 3 (some (.object "java/lang/Object")) 0 := ⟨q2309, q182, q2311, by decide +kernel, by decide +kernel, by decide +kernel⟩
theorem km_J31_checkForComodification : kx_mi yJ31_checkForComodification cJ31_checkForComodification 1 none 0 := ⟨q2313, q182, q2315, by decide +kernel, by decide +kernel, by decide +kernel⟩
theorem km_J32_init : kx_mi yJ32_init cJ32_init 2 none 1 := ⟨q2556, q183, q2557, by decide +kernel, by decide +kernel, by decide +kernel⟩
theorem km_J32_init_2 : kx_mi yJ32_init_2 cJ32_init_2 1 none 0 := ⟨q2591, q183, q2592, by decide +kernel, by decide +kernel, by decide +kernel⟩
theorem km_J33_init : kx_mi yJ33_init cJ33_init 2 none 1 := ⟨q2553, q184, q2554, by decide +kernel, by decide +kernel, by decide +kernel⟩
theorem km_J33_init_2 : kx_mi yJ33_init_2 cJ33_init_2 2 none 1 := ⟨q2924, q184, q2925, by decide +kernel, by decide +kernel, by decide +kernel⟩
theorem km_J34_init : kx_mi yJ34_init cJ34_init 1 none 0 := ⟨q2052, q187, q2053, by decide +kernel, by decide +kernel, by decide +kernel⟩
theorem km_J35_init : kx_mi yJ35_init cJ35_init 2 none 1 := ⟨q2046, q188, q2047, by decide +kernel, by decide +kernel, by decide +kernel⟩
theorem km_J35_init_2 : kx_mi yJ35_init_2 cJ35_init_2 3 none 2 := ⟨q2049, q188, q2050, by decide +kernel, by decide +kernel, by decide +kernel⟩
theorem km_J35_iterator : kx_mi yJ35_iterator cJ35_iterator 1 (some (.object "java/util/Iterator")) 0 := ⟨q2149, q188, q2151, by decide +kernel, by decide +kernel, by decide +kernel⟩
theorem km_J35_add : kx_mi yJ35_add cJ35_add 2 (some .boolean) 1 := ⟨q2357, q188, q2359, by decide +kernel, by decide +kernel, by decide +kernel⟩
theorem km_J35_offer : kx_mi yJ35_offer cJ35_offer 3 (some .boolean) 1 := ⟨q2361, q188, q2363, by decide +kernel, by decide +kernel, by decide +kernel⟩
theorem km_J35_grow : kx_mi yJ35_grow cJ35_grow 4 none 1 := ⟨q2366, q188, q2367, by decide +kernel, by decide +kernel, by decide +kernel⟩
theorem km_J35_siftUp : kx_mi yJ35_siftUp cJ35_siftUp 3 none 2 := ⟨q2372, q188, q2373, by decide +kernel, by decide +kernel, by decide +kernel⟩
theorem km_J35_siftUpUsingComparator : kx_ms yJ35_siftUpUsingComparator cJ35_siftUpUsingComparator 6 none 4 := ⟨q2375, q188, q2376, by decide +kernel, by decide +kernel, by decide +kernel⟩
theorem km_J35_siftUpComparable : kx_ms yJ35_siftUpComparable cJ35_siftUpComparable 6 none 3 := ⟨q2380, q188, q2381, by decide +kernel, by decide +kernel, by decide +kernel⟩
theorem km_J35_poll : kx_mi yJ35_poll cJ35_poll 6 (some (.object "java/lang/Object")) 0 := ⟨q2386, q188, q2388, by decide +kernel, by decide +kernel, by decide +kernel⟩
theorem km_J35_siftDownComparable : kx_ms yJ35_siftDownComparable cJ35_siftDownComparable 9 none 4 := ⟨q2390, q188, q2391, by decide +kernel, by decide +kernel, by decide +kernel⟩
theorem km_J35_siftDownUsingComparator : kx_ms yJ35_siftDownUsingComparator cJ35_siftDownUsingComparator 9 none 5 := ⟨q2393, q188, q2394, by decide +kernel, by decide +kernel, by decide +kernel⟩
theorem km_J35_peek : kx_mi yJ35_peek cJ35_peek 1 (some (.object "java/lang/Object")) 0 := ⟨q2396, q188, q2398, by decide +kernel, by decide +kernel, by decide +kernel⟩
theorem km_J36_init : kx_mi yJ36_init cJ36_init 2 none 1 := ⟨q2084, q190, q2085, by decide +kernel, by decide +kernel, by decide +kernel⟩
theorem km_J36_iterator : kx_mi yJ36_iterator cJ36_iterator 1 (some (.object "java/util/Iterator")) 0 := ⟨q2212, q190, q2214, by decide +kernel, by decide +kernel, by decide +kernel⟩
theorem km_J37_init : kx_mi yJ37_init cJ37_init 2 none 1 := ⟨q2104, q191, q2105, by decide +kernel, by decide +kernel, by decide +kernel⟩
theorem km_J37_hasNext : kx_mi yJ37_hasNext cJ37_hasNext 1 (some .boolean) 0 := ⟨q2242, q191, q2244, by decide +kernel, by decide +kernel, by decide +kernel⟩
theorem km_J37_next : kx_mi yJ37_next cJ37_next 3 (some (.object "java/lang/Object")) 0 := ⟨q2298, q191, q2300, by decide +kernel, by decide +kernel, by decide +kernel⟩
theorem km_J38_init : kx_mi yJ38_init cJ38_init 2 none 1 := ⟨q2155, q192, q2156, by decide +kernel, by decide +kernel, by decide +kernel⟩
theorem km_J38_hasNext : kx_mi yJ38_hasNext cJ38_hasNext 1 (some .boolean) 0 := ⟨q2254, q192, q2256, by decide +kernel, by decide +kernel, by decide +kernel⟩
theorem km_J38_next : kx_mi yJ38_next cJ38_next 1 (some (.object "java/lang/Object")) 0 := ⟨q2320, q192, q2322, by decide +kernel, by decide +kernel, by decide +kernel⟩
theorem km_J39_init : kx_mi yJ39_init cJ39_init 3 none 2 := ⟨q2193, q193, q2194, by decide +kernel, by decide +kernel, by decide +kernel⟩
theorem km_J39_hasNext : kx_mi yJ39_hasNext cJ39_hasNext 1 (some .boolean) 0 := ⟨q2264, q193, q2266, by decide +kernel, by decide +kernel, by decide +kernel⟩
theorem km_J39_nextEntry : kx_mi yJ39_nextEntry cJ39_nextEntry 2 (some (.object "java/util/TreeMap$Entry")) 0 := ⟨q2342, q193, q2343, by decide +kernel, by decide +kernel, by decide +kernel⟩
theorem km_J4_init : kx_mi yJ4_init cJ4_init 2 none 1 := ⟨q507, q139, q508, by decide +kernel, by decide +kernel, by decide +kernel⟩
theorem km_J4_init_2 : kx_mi yJ4_init_2 cJ4_init_2 5 none 4 := ⟨q1473, q139, q1474, by decide +kernel, by decide +kernel, by decide +kernel⟩
theorem km_J4_init_3 : kx_mi yJ4_init_3 cJ4_init_3 1 none 0 := ⟨q1837, q139, q1838, by decide +kernel, by decide +kernel, by decide +kernel⟩
theorem km_J40_init : kx_mi yJ40_init cJ40_init 3 none 2 := ⟨q2190, q194, q2191, by decide +kernel, by decide +kernel, by decide +kernel⟩
theorem km_J40_next : kx_mi yJ40_next cJ40_next 1 (some (.object "java/lang/Object")) 0 := ⟨q2331, q194, q2333, by decide +kernel, by decide +kernel, by decide +kernel⟩
theorem km_J40_next_2 : kx_mi yJ40_next_2 cJ40_next_2 1 (some (.object "java/util/Map$Entry")) 0 := ⟨q2335, q194, q2337, by decide +kernel, by decide +kernel, by decide +kernel⟩
theorem km_J41_init : kx_mi yJ41_init cJ41_init 3 none 2 := ⟨q2219, q195, q2220, by decide +kernel, by decide +kernel, by decide +kernel⟩
theorem km_J41_next : kx_mi yJ41_next cJ41_next 1 (some (.object "java/lang/Object")) 0 := ⟨q2349, q195, q2351, by decide +kernel, by decide +kernel, by decide +kernel⟩
theorem km_J42_iterator : kx_mi yJ42_iterator cJ42_iterator 1 (some (.object "java/util/Iterator")) 0 := ⟨q2180, q197, q2182, by decide +kernel, by decide +kernel, by decide +kernel⟩
theorem km_J43_init : kx_mi yJ43_init cJ43_init 2 none 1 := ⟨q2894, q198, q2895, by decide +kernel, by decide +kernel, by decide +kernel⟩
theorem km_J44_init : kx_mi yJ44_init cJ44_init 1 none 0 := ⟨q205, q3580, q206, by decide +kernel, by decide +kernel, by decide +kernel⟩
theorem km_J5_init : kx_mi yJ5_init cJ5_init 2 none 1 := ⟨q504, q140, q505, by decide +kernel, by decide +kernel, by decide +kernel⟩
theorem km_J5_init_2 : kx_mi yJ5_init_2 cJ5_init_2 1 none 0 := ⟨q1834, q140, q1835, by decide +kernel, by decide +kernel, by decide +kernel⟩
theorem km_J6_init : kx_mi yJ6_init cJ6_init 2 none 1 := ⟨q501, q141, q502, by decide +kernel, by decide +kernel, by decide +kernel⟩
theorem km_J6_init_2 : kx_mi yJ6_init_2 cJ6_init_2 1 none 0 := ⟨q2057, q141, q2058, by decide +kernel, by decide +kernel, by decide +kernel⟩
theorem km_J7_init : kx_mi yJ7_init cJ7_init 2 none 1 := ⟨q284, q142, q285, by decide +kernel, by decide +kernel, by decide +kernel⟩
theorem km_J7_append : kx_mi yJ7_append cJ7_append 3 (some (.object "java/lang/AbstractStringBuilder")) 1 := ⟨q317, q142, q318, by decide +kernel, by decide +kernel, by decide +kernel⟩
theorem km_J7_appendNull : kx_mi yJ7_appendNull cJ7_appendNull 3 (some (.object "java/lang/AbstractStringBuilder")) 0 := ⟨q321, q142, q322, by decide +kernel, by decide +kernel, by decide +kernel⟩
theorem km_J7_ensureCapacityInternal : kx_mi yJ7_ensureCapacityInternal cJ7_ensureCapacityInternal 3 none 1 := ⟨q325, q142, q326, by decide +kernel, by decide +kernel, by decide +kernel⟩
theorem km_J7_newCapacity : kx_mi yJ7_newCapacity cJ7_newCapacity 6 (some .int) 1 := ⟨q329, q142, q330, by decide +kernel, by decide +kernel, by decide +kernel⟩
theorem km_J7_isLatin1 : kx_mi yJ7_isLatin1 cJ7_isLatin1 1 (some .boolean) 0 := ⟨q359, q142, q362, by decide +kernel, by decide +kernel, by decide +kernel⟩
theorem km_J7_putStringAt : kx_mi yJ7_putStringAt cJ7_putStringAt 3 none 2 := ⟨q400, q142, q401, by decide +kernel, by decide +kernel, by decide +kernel⟩
theorem km_J7_inflateIfNeededFor : kx_mi yJ7_inflateIfNeededFor cJ7_inflateIfNeededFor 2 none 1 := ⟨q404, q142, q405, by decide +kernel, by decide +kernel, by decide +kernel⟩
theorem km_J7_inflate : kx_mi yJ7_inflate cJ7_inflate 2 none 0 := ⟨q409, q142, q410, by decide +kernel, by decide +kernel, by decide +kernel⟩
theorem km_J7_append_2 : kx_mi yJ7_append_2 cJ7_append_2 4 (some (.object "java/lang/AbstractStringBuilder")) 1 := ⟨q437, q142, q438, by decide +kernel, by decide +kernel, by decide +kernel⟩
theorem km_J7_getValue : kx_mi yJ7_getValue cJ7_getValue 1 (some (.array .byte)) 0 := ⟨q471, q142, q474, by decide +kernel, by decide +kernel, by decide +kernel⟩
theorem km_J7_length : kx_mi yJ7_length cJ7_length 1 (some .int) 0 := ⟨q476, q142, q482, by decide +kernel, by decide +kernel, by decide +kernel⟩
theorem km_J7_compareTo : kx_mi yJ7_compareTo cJ7_compareTo 6 (some .int) 1 := ⟨q1040, q142, q1041, by decide +kernel, by decide +kernel, by decide +kernel⟩
theorem km_J7_append_3 : kx_mi yJ7_append_3 cJ7_append_3 2 (some (.object "java/lang/AbstractStringBuilder")) 1 := ⟨q1296, q142, q1297, by decide +kernel, by decide +kernel, by decide +kernel⟩
theorem km_J7_charAt : kx_mi yJ7_charAt cJ7_charAt 5 (some .char) 1 := ⟨q2494, q142, q2495, by decide +kernel, by decide +kernel, by decide +kernel⟩
theorem km_J7_setLength : kx_mi yJ7_setLength cJ7_setLength 2 none 1 := ⟨q2889, q142, q2890, by decide +kernel, by decide +kernel, by decide +kernel⟩
theorem km_J8_init : kx_mi yJ8_init cJ8_init 1 none 0 := ⟨q281, q143, q282, by decide +kernel, by decide +kernel, by decide +kernel⟩
theorem km_J8_append : kx_mi yJ8_append cJ8_append 2 (some (.object "java/lang/StringBuilder")) 1 := ⟨q313, q143, q315, by decide +kernel, by decide +kernel, by decide +kernel⟩
theorem km_J8_append_2 : kx_mi yJ8_append_2 cJ8_append_2 2 (some (.object "java/lang/StringBuilder")) 1 := ⟨q433, q143, q435, by decide +kernel, by decide +kernel, by decide +kernel⟩
theorem km_J8_toString : kx_mi yJ8_toString cJ8_toString 1 (some (.object "java/lang/String")) 0 := ⟨q458, q143, q460, by decide +kernel, by decide +kernel, by decide +kernel⟩
theorem km_J8_length : kx_mi yJ8_length cJ8_length 1 (some .int) 0 := ⟨q479, q143, q480, by decide +kernel, by decide +kernel, by decide +kernel⟩
theorem km_J8_compareTo : kx_mi yJ8_compareTo cJ8_compareTo 2 (some .int) 1 := ⟨q1031, q143, q1033, by decide +kernel, by decide +kernel, by decide +kernel⟩
theorem km_J8_compareTo_2 : kx_mi yJ8_compareTo_2 cJ8_compareTo_2 2 (some .int) 1 := ⟨q1036, q143, q1038, by decide +kernel, by decide +kernel, by decide +kernel⟩
theorem km_J8_append_3 : kx_mi yJ8_append_3 cJ8_append_3 2 (some (.object "java/lang/StringBuilder")) 1 := ⟨q1292, q143, q1294, by decide +kernel, by decide +kernel, by decide +kernel⟩
theorem km_J8_charAt : kx_mi yJ8_charAt cJ8_charAt 2 (some .char) 1 := ⟨q2490, q143, q2492, by decide +kernel, by decide +kernel, by decide +kernel⟩
theorem km_J8_setLength : kx_mi yJ8_setLength cJ8_setLength 2 none 1 := ⟨q2885, q143, q2887, by decide +kernel, by decide +kernel, by decide +kernel⟩
theorem km_J9_checkBoundsBeginEnd : kx_ms yJ9_checkBoundsBeginEnd cJ9_checkBoundsBeginEnd 3 none 3 := ⟨q373, q144, q374, by decide +kernel, by decide +kernel, by decide +kernel⟩
theorem km_J9_length : kx_mi yJ9_length cJ9_length 1 (some .int) 0 := ⟨q390, q144, q392, by decide +kernel, by decide +kernel, by decide +kernel⟩
theorem km_J9_coder : kx_mi yJ9_coder cJ9_coder 1 (some .byte) 0 := ⟨q394, q144, q396, by decide +kernel, by decide +kernel, by decide +kernel⟩
theorem km_J9_checkBoundsOffCount : kx_ms yJ9_checkBoundsOffCount cJ9_checkBoundsOffCount 3 (some .int) 3 := ⟨q421, q144, q422, by decide +kernel, by decide +kernel, by decide +kernel⟩
theorem km_J9_getBytes : kx_mi yJ9_getBytes cJ9_getBytes 4 none 3 := ⟨q427, q144, q429, by decide +kernel, by decide +kernel, by decide +kernel⟩
theorem km_J9_init : kx_mi yJ9_init cJ9_init 2 none 1 := ⟨q464, q144, q465, by decide +kernel, by decide +kernel, by decide +kernel⟩
theorem km_J9_init_2 : kx_mi yJ9_init_2 cJ9_init_2 5 none 2 := ⟨q467, q144, q468, by decide +kernel, by decide +kernel, by decide +kernel⟩
theorem km_J9_compareTo : kx_mi yJ9_compareTo cJ9_compareTo 2 (some .int) 1 := ⟨q884, q144, q886, by decide +kernel, by decide +kernel, by decide +kernel⟩
theorem km_J9_compareTo_2 : kx_mi yJ9_compareTo_2 cJ9_compareTo_2 5 (some .int) 1 := ⟨q889, q144, q891, by decide +kernel, by decide +kernel, by decide +kernel⟩
theorem km_J9_checkOffset : kx_ms yJ9_checkOffset cJ9_checkOffset 2 none 2 := ⟨q1050, q144, q1051, by decide +kernel, by decide +kernel, by decide +kernel⟩
theorem km_J9_checkIndex : kx_ms yJ9_checkIndex cJ9_checkIndex 2 none 2 := ⟨q1308, q144, q1309, by decide +kernel, by decide +kernel, by decide +kernel⟩
theorem km_J9_charAt : kx_mi yJ9_charAt cJ9_charAt 2 (some .char) 1 := ⟨q1349, q144, q1351, by decide +kernel, by decide +kernel, by decide +kernel⟩
theorem km_J9_isLatin1 : kx_mi yJ9_isLatin1 cJ9_isLatin1 1 (some .boolean) 0 := ⟨q1353, q144, q1355, by decide +kernel, by decide +kernel, by decide +kernel⟩
theorem km_J9_equals : kx_mi yJ9_equals cJ9_equals 3 (some .boolean) 1 := ⟨q1442, q144, q1444, by decide +kernel, by decide +kernel, by decide +kernel⟩
theorem km_J9_hashCode : kx_mi yJ9_hashCode cJ9_hashCode 2 (some .int) 0 := ⟨q1539, q144, q1541, by decide +kernel, by decide +kernel, by decide +kernel⟩
theorem km_X0_count : kx_msH yX0_count cX0_count 4 (some .int) 3 [(0, 9, 12, 13)] := ⟨q2504, q132, q2505, by decide +kernel, by decide +kernel, by decide +kernel⟩
theorem km_X0_account : kx_msH yX0_account cX0_account 4 (some .int) 3 [(0, 9, 12, 13)] := ⟨q2538, q132, q2539, by decide +kernel, by decide +kernel, by decide +kernel⟩
theorem km_X0_proverb : kx_msH yX0_proverb cX0_proverb 5 (some .int) 4 [(0, 10, 13, 22), (0, 10, 17, 13)] := ⟨q2549, q132, q2550, by decide +kernel, by decide +kernel, by decide +kernel⟩
theorem km_X0_speaks : kx_msH yX0_speaks cX0_speaks 6 (some .int) 5 [(0, 19, 22, 22)] := ⟨q2605, q132, q2606, by decide +kernel, by decide +kernel, by decide +kernel⟩
theorem km_X0_speakers : kx_msH yX0_speakers cX0_speakers 5 (some .int) 4 [(0, 10, 13, 22)] := ⟨q2617, q132, q2618, by decide +kernel, by decide +kernel, by decide +kernel⟩
theorem km_X0_speaker : kx_msH yX0_speaker cX0_speaker 6 (some .int) 5 [(0, 12, 15, 22)] := ⟨q2663, q132, q2664, by decide +kernel, by decide +kernel, by decide +kernel⟩
theorem km_X0_voice : kx_msH yX0_voice cX0_voice 6 (some .int) 5 [(0, 12, 15, 22), (0, 12, 19, 13)] := ⟨q2670, q132, q2671, by decide +kernel, by decide +kernel, by decide +kernel⟩
theorem km_X0_told : kx_msH yX0_told cX0_told 5 (some .int) 4 [(0, 10, 13, 22)] := ⟨q2685, q132, q2686, by decide +kernel, by decide +kernel, by decide +kernel⟩
theorem km_X0_lead : kx_msH yX0_lead cX0_lead 5 (some .int) 4 [(0, 10, 13, 22)] := ⟨q2692, q132, q2693, by decide +kernel, by decide +kernel, by decide +kernel⟩
theorem km_X0_why : kx_msH yX0_why cX0_why 7 (some .int) 6 [(0, 14, 17, 22), (0, 14, 21, 13)] := ⟨q2700, q132, q2701, by decide +kernel, by decide +kernel, by decide +kernel⟩
theorem km_X0_clash : kx_msH yX0_clash cX0_clash 5 (some .int) 4 [(0, 17, 20, 22)] := ⟨q2713, q132, q2714, by decide +kernel, by decide +kernel, by decide +kernel⟩
theorem km_X0_met : kx_msH yX0_met cX0_met 5 (some .int) 4 [(0, 10, 13, 22)] := ⟨q2720, q132, q2721, by decide +kernel, by decide +kernel, by decide +kernel⟩
theorem km_X0_beat : kx_msH yX0_beat cX0_beat 5 (some .int) 4 [(0, 10, 13, 22)] := ⟨q2731, q132, q2732, by decide +kernel, by decide +kernel, by decide +kernel⟩
theorem km_X0_rival : kx_msH yX0_rival cX0_rival 4 (some .int) 3 [(0, 9, 12, 22)] := ⟨q2738, q132, q2739, by decide +kernel, by decide +kernel, by decide +kernel⟩
theorem km_X0_year : kx_msH yX0_year cX0_year 5 (some .int) 4 [(0, 10, 13, 13)] := ⟨q2745, q132, q2746, by decide +kernel, by decide +kernel, by decide +kernel⟩
theorem km_X0_dayOf : kx_msH yX0_dayOf cX0_dayOf 5 (some .int) 4 [(0, 10, 13, 13)] := ⟨q2753, q132, q2754, by decide +kernel, by decide +kernel, by decide +kernel⟩
theorem km_X0_turnsIn : kx_msH yX0_turnsIn cX0_turnsIn 5 (some .int) 4 [(0, 10, 13, 22), (0, 10, 17, 13)] := ⟨q2760, q132, q2761, by decide +kernel, by decide +kernel, by decide +kernel⟩
theorem km_X0_weightIn : kx_msH yX0_weightIn cX0_weightIn 7 (some .int) 6 [(0, 14, 17, 22), (0, 14, 21, 13)] := ⟨q2771, q132, q2772, by decide +kernel, by decide +kernel, by decide +kernel⟩
theorem km_X0_rightBy : kx_msH yX0_rightBy cX0_rightBy 4 (some .int) 3 [(0, 9, 12, 13)] := ⟨q2779, q132, q2780, by decide +kernel, by decide +kernel, by decide +kernel⟩
theorem km_X0_rightWith : kx_msH yX0_rightWith cX0_rightWith 5 (some .int) 4 [(0, 10, 13, 13)] := ⟨q2786, q132, q2787, by decide +kernel, by decide +kernel, by decide +kernel⟩
theorem km_X0_harmOf : kx_msH yX0_harmOf cX0_harmOf 4 (some .int) 3 [(0, 9, 12, 22)] := ⟨q2794, q132, q2795, by decide +kernel, by decide +kernel, by decide +kernel⟩
theorem km_X0_reachOf : kx_msH yX0_reachOf cX0_reachOf 4 (some .int) 3 [(0, 9, 12, 22)] := ⟨q2801, q132, q2802, by decide +kernel, by decide +kernel, by decide +kernel⟩
theorem km_X0_day : kx_msH yX0_day cX0_day 5 (some .int) 4 [(0, 10, 13, 22), (0, 10, 17, 13), (0, 10, 21, 88)] := ⟨q2809, q132, q2810, by decide +kernel, by decide +kernel, by decide +kernel⟩
theorem km_X0_proverbNew : kx_msH yX0_proverbNew cX0_proverbNew 9 (some .int) 8 [(0, 18, 21, 22), (0, 18, 25, 13), (0, 18, 29, 88)] := ⟨q2825, q132, q2826, by decide +kernel, by decide +kernel, by decide +kernel⟩
theorem km_X0_forget : kx_msH yX0_forget cX0_forget 4 (some .int) 3 [(0, 9, 12, 22), (0, 9, 15, 88)] := ⟨q2834, q132, q2835, by decide +kernel, by decide +kernel, by decide +kernel⟩
theorem km_X0_weigh : kx_msH yX0_weigh cX0_weigh 5 (some .int) 4 [(0, 10, 13, 22), (0, 10, 17, 13)] := ⟨q2842, q132, q2843, by decide +kernel, by decide +kernel, by decide +kernel⟩
theorem km_X0_set : kx_msH yX0_set cX0_set 5 (some .int) 4 [(0, 10, 13, 13)] := ⟨q2850, q132, q2851, by decide +kernel, by decide +kernel, by decide +kernel⟩
theorem km_X0_undo : kx_msH yX0_undo cX0_undo 3 (some .int) 2 [(0, 8, 11, 107)] := ⟨q2857, q132, q2858, by decide +kernel, by decide +kernel, by decide +kernel⟩
theorem km_X0_printMonth : kx_msH yX0_printMonth cX0_printMonth 4 (some .int) 3 [(0, 9, 12, 22)] := ⟨q2878, q132, q2879, by decide +kernel, by decide +kernel, by decide +kernel⟩
theorem km_X0_printProverb : kx_msH yX0_printProverb cX0_printProverb 4 (some .int) 3 [(0, 9, 12, 22)] := ⟨q2938, q132, q2939, by decide +kernel, by decide +kernel, by decide +kernel⟩
theorem km_X0_restoreState : kx_msH yX0_restoreState cX0_restoreState 3 (some .int) 2 [(0, 8, 11, 107)] := ⟨q2946, q132, q2947, by decide +kernel, by decide +kernel, by decide +kernel⟩
theorem km_X1_init : kx_mi yX1_init cX1_init 1 none 0 := ⟨q202, q133, q203, by decide +kernel, by decide +kernel, by decide +kernel⟩
theorem km_X1_first : kx_ms yX1_first cX1_first 7 (some (.object "RoseProverbs$Rose")) 0 := ⟨q208, q133, q209, by decide +kernel, by decide +kernel, by decide +kernel⟩
theorem km_X1_appendInput : kx_mi yX1_appendInput cX1_appendInput 6 (some .int) 5 := ⟨q1234, q133, q1236, by decide +kernel, by decide +kernel, by decide +kernel⟩
theorem km_X1_appends : kx_mi yX1_appends cX1_appends 3 none 1 := ⟨q1239, q133, q1240, by decide +kernel, by decide +kernel, by decide +kernel⟩
theorem km_X1_truncateInput : kx_mi yX1_truncateInput cX1_truncateInput 2 (some .boolean) 1 := ⟨q1242, q133, q1244, by decide +kernel, by decide +kernel, by decide +kernel⟩
theorem km_X1_isIn : kx_ms yX1_isIn cX1_isIn 6 (some .boolean) 3 := ⟨q1246, q133, q1247, by decide +kernel, by decide +kernel, by decide +kernel⟩
theorem km_X1_loadRose : kx_miH yX1_loadRose cX1_loadRose 4 (some .int) 0 [(4, 55, 62, 113), (4, 55, 76, 0), (62, 69, 76, 0)] := ⟨q1249, q133, q1251, by decide +kernel, by decide +kernel, by decide +kernel⟩
theorem km_X1_startsText : kx_mi yX1_startsText cX1_startsText 1 none 0 := ⟨q1255, q133, q1256, by decide +kernel, by decide +kernel, by decide +kernel⟩
theorem km_X1_settingOf : kx_ms yX1_settingOf cX1_settingOf 3 (some .int) 1 := ⟨q1536, q133, q1537, by decide +kernel, by decide +kernel, by decide +kernel⟩
theorem km_X1_bound : kx_ms yX1_bound cX1_bound 1 (some .int) 1 := ⟨q1600, q133, q1601, by decide +kernel, by decide +kernel, by decide +kernel⟩
theorem km_X1_fails : kx_mi yX1_fails cX1_fails 2 (some .int) 1 := ⟨q1623, q133, q1624, by decide +kernel, by decide +kernel, by decide +kernel⟩
theorem km_X1_playScript : kx_miH yX1_playScript cX1_playScript 4 (some .int) 0 [(4, 20, 27, 113), (4, 20, 41, 0), (27, 34, 41, 0)] := ⟨q1626, q133, q1628, by decide +kernel, by decide +kernel, by decide +kernel⟩
theorem km_X1_plays : kx_mi yX1_plays cX1_plays 4 (some .int) 1 := ⟨q1794, q133, q1795, by decide +kernel, by decide +kernel, by decide +kernel⟩
theorem km_X1_changed : kx_mi yX1_changed cX1_changed 1 (some (.object "RoseProverbs$Rose")) 0 := ⟨q1798, q133, q1799, by decide +kernel, by decide +kernel, by decide +kernel⟩
theorem km_X1_bit : kx_ms yX1_bit cX1_bit 1 (some .int) 1 := ⟨q1948, q133, q1949, by decide +kernel, by decide +kernel, by decide +kernel⟩
theorem km_X1_mayCome : kx_ms yX1_mayCome cX1_mayCome 2 (some .boolean) 2 := ⟨q1972, q133, q1973, by decide +kernel, by decide +kernel, by decide +kernel⟩
theorem km_X1_comes : kx_ms yX1_comes cX1_comes 2 (some .int) 2 := ⟨q1976, q133, q1977, by decide +kernel, by decide +kernel, by decide +kernel⟩
theorem km_X1_errorCode : kx_mi yX1_errorCode cX1_errorCode 1 (some .int) 0 := ⟨q2024, q133, q2026, by decide +kernel, by decide +kernel, by decide +kernel⟩
theorem km_X1_errorOffset : kx_mi yX1_errorOffset cX1_errorOffset 1 (some .int) 0 := ⟨q2028, q133, q2030, by decide +kernel, by decide +kernel, by decide +kernel⟩
theorem km_X1_byWeight : kx_mi yX1_byWeight cX1_byWeight 6 (some .int) 1 := ⟨q2032, q133, q2034, by decide +kernel, by decide +kernel, by decide +kernel⟩
theorem km_X1_checkElement : kx_ms yX1_checkElement cX1_checkElement 1 none 1 := ⟨q2285, q133, q2286, by decide +kernel, by decide +kernel, by decide +kernel⟩
theorem km_X1_bestRule : kx_mi yX1_bestRule cX1_bestRule 5 (some .int) 0 := ⟨q2400, q133, q2402, by decide +kernel, by decide +kernel, by decide +kernel⟩
theorem km_X1_rightByRule : kx_mi yX1_rightByRule cX1_rightByRule 2 (some .int) 1 := ⟨q2405, q133, q2406, by decide +kernel, by decide +kernel, by decide +kernel⟩
theorem km_X1_rightIf : kx_mi yX1_rightIf cX1_rightIf 6 (some .int) 3 := ⟨q2409, q133, q2410, by decide +kernel, by decide +kernel, by decide +kernel⟩
theorem km_X1_think : kx_mi yX1_think cX1_think 1 (some (.object "RoseProverbs$Rose")) 0 := ⟨q2413, q133, q2414, by decide +kernel, by decide +kernel, by decide +kernel⟩
theorem km_X1_isAlike : kx_mi yX1_isAlike cX1_isAlike 3 (some .boolean) 0 := ⟨q2417, q133, q2418, by decide +kernel, by decide +kernel, by decide +kernel⟩
theorem km_X1_agree : kx_mi yX1_agree cX1_agree 1 (some .boolean) 0 := ⟨q2429, q133, q2431, by decide +kernel, by decide +kernel, by decide +kernel⟩
theorem km_X1_areTold : kx_mi yX1_areTold cX1_areTold 3 (some .boolean) 0 := ⟨q2434, q133, q2435, by decide +kernel, by decide +kernel, by decide +kernel⟩
theorem km_X1_toldAlone : kx_mi yX1_toldAlone cX1_toldAlone 11 (some .int) 2 := ⟨q2439, q133, q2440, by decide +kernel, by decide +kernel, by decide +kernel⟩
theorem km_X1_areProverbs : kx_mi yX1_areProverbs cX1_areProverbs 5 (some .boolean) 0 := ⟨q2445, q133, q2446, by decide +kernel, by decide +kernel, by decide +kernel⟩
theorem km_X1_arePairs : kx_mi yX1_arePairs cX1_arePairs 4 (some .boolean) 0 := ⟨q2455, q133, q2456, by decide +kernel, by decide +kernel, by decide +kernel⟩
theorem km_X1_areScores : kx_mi yX1_areScores cX1_areScores 3 (some .boolean) 0 := ⟨q2459, q133, q2460, by decide +kernel, by decide +kernel, by decide +kernel⟩
theorem km_X1_truth : kx_mi yX1_truth cX1_truth 2 (some .double) 0 := ⟨q2462, q133, q2464, by decide +kernel, by decide +kernel, by decide +kernel⟩
theorem km_X1_meanWeight : kx_mi yX1_meanWeight cX1_meanWeight 1 (some .float) 0 := ⟨q2466, q133, q2468, by decide +kernel, by decide +kernel, by decide +kernel⟩
theorem km_X1_weights : kx_mi yX1_weights cX1_weights 4 (some .int) 0 := ⟨q2482, q133, q2483, by decide +kernel, by decide +kernel, by decide +kernel⟩
theorem km_X1_outputByte : kx_mi yX1_outputByte cX1_outputByte 2 (some .int) 1 := ⟨q2485, q133, q2487, by decide +kernel, by decide +kernel, by decide +kernel⟩
theorem km_X1_saveState : kx_mi yX1_saveState cX1_saveState 1 (some .int) 0 := ⟨q2500, q133, q2502, by decide +kernel, by decide +kernel, by decide +kernel⟩
theorem km_X1_count : kx_mi yX1_count cX1_count 2 (some .int) 1 := ⟨q2508, q133, q2510, by decide +kernel, by decide +kernel, by decide +kernel⟩
theorem km_X1_clashes : kx_mi yX1_clashes cX1_clashes 4 (some .int) 0 := ⟨q2516, q133, q2517, by decide +kernel, by decide +kernel, by decide +kernel⟩
theorem km_X1_clashesOf : kx_mi yX1_clashesOf cX1_clashesOf 5 (some .int) 1 := ⟨q2520, q133, q2521, by decide +kernel, by decide +kernel, by decide +kernel⟩
theorem km_X1_silent : kx_mi yX1_silent cX1_silent 4 (some .int) 0 := ⟨q2533, q133, q2534, by decide +kernel, by decide +kernel, by decide +kernel⟩
theorem km_X1_account : kx_mi yX1_account cX1_account 2 (some .int) 1 := ⟨q2541, q133, q2543, by decide +kernel, by decide +kernel, by decide +kernel⟩
theorem km_X1_checkArgument : kx_ms yX1_checkArgument cX1_checkArgument 1 none 1 := ⟨q2546, q133, q2547, by decide +kernel, by decide +kernel, by decide +kernel⟩
theorem km_X1_proverb : kx_mi yX1_proverb cX1_proverb 4 (some .int) 2 := ⟨q2571, q133, q2573, by decide +kernel, by decide +kernel, by decide +kernel⟩
theorem km_X1_proverbAt : kx_mi yX1_proverbAt cX1_proverbAt 2 (some (.object "RoseProverbs$Proverb")) 1 := ⟨q2576, q133, q2577, by decide +kernel, by decide +kernel, by decide +kernel⟩
theorem km_X1_checkIndex : kx_ms yX1_checkIndex cX1_checkIndex 1 none 1 := ⟨q2579, q133, q2580, by decide +kernel, by decide +kernel, by decide +kernel⟩
theorem km_X1_speaks : kx_mi yX1_speaks cX1_speaks 5 (some .boolean) 3 := ⟨q2608, q133, q2610, by decide +kernel, by decide +kernel, by decide +kernel⟩
theorem km_X1_checkPlace : kx_ms yX1_checkPlace cX1_checkPlace 2 none 2 := ⟨q2612, q133, q2613, by decide +kernel, by decide +kernel, by decide +kernel⟩
theorem km_X1_speakers : kx_mi yX1_speakers cX1_speakers 6 (some .int) 2 := ⟨q2620, q133, q2622, by decide +kernel, by decide +kernel, by decide +kernel⟩
theorem km_X1_speaker : kx_mi yX1_speaker cX1_speaker 7 (some .int) 3 := ⟨q2666, q133, q2668, by decide +kernel, by decide +kernel, by decide +kernel⟩
theorem km_X1_voice : kx_mi yX1_voice cX1_voice 4 (some .int) 3 := ⟨q2673, q133, q2675, by decide +kernel, by decide +kernel, by decide +kernel⟩
theorem km_X1_checkWeather : kx_ms yX1_checkWeather cX1_checkWeather 1 none 1 := ⟨q2677, q133, q2678, by decide +kernel, by decide +kernel, by decide +kernel⟩
theorem km_X1_told : kx_mi yX1_told cX1_told 3 (some .int) 2 := ⟨q2688, q133, q2690, by decide +kernel, by decide +kernel, by decide +kernel⟩
theorem km_X1_lead : kx_mi yX1_lead cX1_lead 6 (some .int) 2 := ⟨q2695, q133, q2697, by decide +kernel, by decide +kernel, by decide +kernel⟩
theorem km_X1_why : kx_mi yX1_why cX1_why 7 (some .int) 4 := ⟨q2703, q133, q2705, by decide +kernel, by decide +kernel, by decide +kernel⟩
theorem km_X1_reason : kx_mi yX1_reason cX1_reason 3 (some .int) 2 := ⟨q2709, q133, q2710, by decide +kernel, by decide +kernel, by decide +kernel⟩
theorem km_X1_clash : kx_mi yX1_clash cX1_clash 4 (some .boolean) 2 := ⟨q2716, q133, q2718, by decide +kernel, by decide +kernel, by decide +kernel⟩
theorem km_X1_met : kx_mi yX1_met cX1_met 3 (some .int) 2 := ⟨q2723, q133, q2725, by decide +kernel, by decide +kernel, by decide +kernel⟩
theorem km_X1_pair : kx_mi yX1_pair cX1_pair 3 (some .int) 2 := ⟨q2728, q133, q2729, by decide +kernel, by decide +kernel, by decide +kernel⟩
theorem km_X1_beat : kx_mi yX1_beat cX1_beat 3 (some .int) 2 := ⟨q2734, q133, q2736, by decide +kernel, by decide +kernel, by decide +kernel⟩
theorem km_X1_rival : kx_mi yX1_rival cX1_rival 7 (some .int) 1 := ⟨q2741, q133, q2743, by decide +kernel, by decide +kernel, by decide +kernel⟩
theorem km_X1_year : kx_mi yX1_year cX1_year 3 (some .int) 2 := ⟨q2748, q133, q2750, by decide +kernel, by decide +kernel, by decide +kernel⟩
theorem km_X1_dayOf : kx_mi yX1_dayOf cX1_dayOf 3 (some .int) 2 := ⟨q2756, q133, q2758, by decide +kernel, by decide +kernel, by decide +kernel⟩
theorem km_X1_turnsIn : kx_mi yX1_turnsIn cX1_turnsIn 6 (some .int) 2 := ⟨q2763, q133, q2765, by decide +kernel, by decide +kernel, by decide +kernel⟩
theorem km_X1_checkPoint : kx_ms yX1_checkPoint cX1_checkPoint 1 none 1 := ⟨q2767, q133, q2768, by decide +kernel, by decide +kernel, by decide +kernel⟩
theorem km_X1_weightIn : kx_mi yX1_weightIn cX1_weightIn 9 (some .int) 4 := ⟨q2774, q133, q2776, by decide +kernel, by decide +kernel, by decide +kernel⟩
theorem km_X1_rightBy : kx_mi yX1_rightBy cX1_rightBy 2 (some .int) 1 := ⟨q2782, q133, q2784, by decide +kernel, by decide +kernel, by decide +kernel⟩
theorem km_X1_rightWith : kx_mi yX1_rightWith cX1_rightWith 3 (some .int) 2 := ⟨q2789, q133, q2791, by decide +kernel, by decide +kernel, by decide +kernel⟩
theorem km_X1_harmOf : kx_mi yX1_harmOf cX1_harmOf 5 (some .int) 1 := ⟨q2797, q133, q2799, by decide +kernel, by decide +kernel, by decide +kernel⟩
theorem km_X1_reachOf : kx_mi yX1_reachOf cX1_reachOf 6 (some .int) 1 := ⟨q2804, q133, q2806, by decide +kernel, by decide +kernel, by decide +kernel⟩
theorem km_X1_day : kx_mi yX1_day cX1_day 3 (some .int) 2 := ⟨q2813, q133, q2815, by decide +kernel, by decide +kernel, by decide +kernel⟩
theorem km_X1_checkState : kx_ms yX1_checkState cX1_checkState 1 none 1 := ⟨q2817, q133, q2818, by decide +kernel, by decide +kernel, by decide +kernel⟩
theorem km_X1_proverbNew : kx_mi yX1_proverbNew cX1_proverbNew 8 (some .int) 6 := ⟨q2828, q133, q2830, by decide +kernel, by decide +kernel, by decide +kernel⟩
theorem km_X1_forget : kx_mi yX1_forget cX1_forget 2 (some .int) 1 := ⟨q2837, q133, q2839, by decide +kernel, by decide +kernel, by decide +kernel⟩
theorem km_X1_weigh : kx_mi yX1_weigh cX1_weigh 4 (some .int) 2 := ⟨q2845, q133, q2847, by decide +kernel, by decide +kernel, by decide +kernel⟩
theorem km_X1_set : kx_mi yX1_set cX1_set 4 (some .int) 2 := ⟨q2853, q133, q2855, by decide +kernel, by decide +kernel, by decide +kernel⟩
theorem km_X1_undo : kx_mi yX1_undo cX1_undo 1 (some .int) 0 := ⟨q2861, q133, q2863, by decide +kernel, by decide +kernel, by decide +kernel⟩
theorem km_X1_printMonth : kx_mi yX1_printMonth cX1_printMonth 4 (some .int) 1 := ⟨q2881, q133, q2883, by decide +kernel, by decide +kernel, by decide +kernel⟩
theorem km_X1_printProverb : kx_mi yX1_printProverb cX1_printProverb 3 (some .int) 1 := ⟨q2941, q133, q2943, by decide +kernel, by decide +kernel, by decide +kernel⟩
theorem km_X1_restoreState : kx_mi yX1_restoreState cX1_restoreState 1 (some .int) 0 := ⟨q2949, q133, q2951, by decide +kernel, by decide +kernel, by decide +kernel⟩
theorem km_X10_init : kx_mi yX10_init cX10_init 4 none 3 := ⟨q1693, q174, q1694, by decide +kernel, by decide +kernel, by decide +kernel⟩
theorem km_X10_does : kx_mi yX10_does cX10_does 2 (some .boolean) 1 := ⟨q1881, q174, q1882, by decide +kernel, by decide +kernel, by decide +kernel⟩
theorem km_X11_init : kx_mi yX11_init cX11_init 3 none 2 := ⟨q1719, q175, q1720, by decide +kernel, by decide +kernel, by decide +kernel⟩
theorem km_X11_does : kx_mi yX11_does cX11_does 2 (some .boolean) 1 := ⟨q1969, q175, q1970, by decide +kernel, by decide +kernel, by decide +kernel⟩
theorem km_X12_init : kx_mi yX12_init cX12_init 3 none 2 := ⟨q1736, q176, q1737, by decide +kernel, by decide +kernel, by decide +kernel⟩
theorem km_X12_does : kx_mi yX12_does cX12_does 2 (some .boolean) 1 := ⟨q1979, q176, q1980, by decide +kernel, by decide +kernel, by decide +kernel⟩
theorem km_X13_init : kx_mi yX13_init cX13_init 4 none 3 := ⟨q1753, q177, q1754, by decide +kernel, by decide +kernel, by decide +kernel⟩
theorem km_X13_does : kx_mi yX13_does cX13_does 2 (some .boolean) 1 := ⟨q2008, q177, q2009, by decide +kernel, by decide +kernel, by decide +kernel⟩
theorem km_X14_init : kx_mi yX14_init cX14_init 4 none 3 := ⟨q1774, q178, q1775, by decide +kernel, by decide +kernel, by decide +kernel⟩
theorem km_X14_does : kx_mi yX14_does cX14_does 2 (some .boolean) 1 := ⟨q2017, q178, q2018, by decide +kernel, by decide +kernel, by decide +kernel⟩
theorem km_X15_monthOf : kx_ms yX15_monthOf cX15_monthOf 1 (some .int) 1 := ⟨q1888, q181, q1889, by decide +kernel, by decide +kernel, by decide +kernel⟩
theorem km_X15_isBetween : kx_mi yX15_isBetween cX15_isBetween 4 (some .boolean) 3 := ⟨q1915, q181, q1917, by decide +kernel, by decide +kernel, by decide +kernel⟩
theorem km_X15_steps : kx_mi yX15_steps cX15_steps 3 (some .int) 2 := ⟨q1924, q181, q1926, by decide +kernel, by decide +kernel, by decide +kernel⟩
theorem km_X16_init : kx_mi yX16_init cX16_init 4 none 3 := ⟨q2630, q185, q2631, by decide +kernel, by decide +kernel, by decide +kernel⟩
theorem km_X16_iterator : kx_mi yX16_iterator cX16_iterator 1 (some (.object "java/util/Iterator")) 0 := ⟨q2647, q185, q2649, by decide +kernel, by decide +kernel, by decide +kernel⟩
theorem km_X17_hasNext : kx_mi yX17_hasNext cX17_hasNext 1 (some .boolean) 0 := ⟨q2234, q186, q2236, by decide +kernel, by decide +kernel, by decide +kernel⟩
theorem km_X17_next : kx_mi yX17_next cX17_next 1 (some (.object "java/lang/Object")) 0 := ⟨q2276, q186, q2278, by decide +kernel, by decide +kernel, by decide +kernel⟩
theorem km_X17_next_2 : kx_mi yX17_next_2 cX17_next_2 2 (some (.object "RoseProverbs$Proverb")) 0 := ⟨q2280, q186, q2282, by decide +kernel, by decide +kernel, by decide +kernel⟩
theorem km_X17_from : kx_mi yX17_from cX17_from 3 (some .int) 1 := ⟨q2292, q186, q2294, by decide +kernel, by decide +kernel, by decide +kernel⟩
theorem km_X17_init : kx_mi yX17_init cX17_init 2 none 1 := ⟨q2652, q186, q2653, by decide +kernel, by decide +kernel, by decide +kernel⟩
theorem km_X18_compare : kx_mi yX18_compare cX18_compare 3 (some .int) 2 := ⟨q1067, q189, q1069, by decide +kernel, by decide +kernel, by decide +kernel⟩
theorem km_X18_compare_2 : kx_mi yX18_compare_2 cX18_compare_2 3 (some .int) 2 := ⟨q1072, q189, q1074, by decide +kernel, by decide +kernel, by decide +kernel⟩
theorem km_X18_init : kx_mi yX18_init cX18_init 1 none 0 := ⟨q2041, q189, q2042, by decide +kernel, by decide +kernel, by decide +kernel⟩
theorem km_X19_size : kx_mi yX19_size cX19_size 1 (some .int) 0 := ⟨q1933, q3581, q1935, by decide +kernel, by decide +kernel, by decide +kernel⟩
theorem km_X2_init : kx_mi yX2_init cX2_init 1 none 0 := ⟨q213, q134, q214, by decide +kernel, by decide +kernel, by decide +kernel⟩
theorem km_X2_comes : kx_mi yX2_comes cX2_comes 2 (some .int) 1 := ⟨q669, q134, q671, by decide +kernel, by decide +kernel, by decide +kernel⟩
theorem km_X2_adds : kx_mi yX2_adds cX2_adds 4 (some .int) 1 := ⟨q743, q134, q744, by decide +kernel, by decide +kernel, by decide +kernel⟩
theorem km_X2_twin : kx_mi yX2_twin cX2_twin 4 (some (.object "RoseProverbs$Rose")) 0 := ⟨q1140, q134, q1142, by decide +kernel, by decide +kernel, by decide +kernel⟩
theorem km_X2_proverb : kx_mi yX2_proverb cX2_proverb 2 (some (.object "RoseProverbs$Proverb")) 1 := ⟨q1146, q134, q1148, by decide +kernel, by decide +kernel, by decide +kernel⟩
theorem km_X2_takes : kx_mi yX2_takes cX2_takes 3 (some (.object "RoseProverbs$Rose")) 1 := ⟨q1176, q134, q1178, by decide +kernel, by decide +kernel, by decide +kernel⟩
theorem km_X2_isTold : kx_mi yX2_isTold cX2_isTold 2 (some .boolean) 1 := ⟨q1512, q134, q1514, by decide +kernel, by decide +kernel, by decide +kernel⟩
theorem km_X2_lives : kx_mi yX2_lives cX2_lives 5 (some .int) 2 := ⟨q1884, q134, q1886, by decide +kernel, by decide +kernel, by decide +kernel⟩
theorem km_X2_told : kx_mi yX2_told cX2_told 3 (some .int) 2 := ⟨q1891, q134, q1893, by decide +kernel, by decide +kernel, by decide +kernel⟩
theorem km_X2_toldWithout : kx_mi yX2_toldWithout cX2_toldWithout 6 (some .int) 3 := ⟨q1895, q134, q1897, by decide +kernel, by decide +kernel, by decide +kernel⟩
theorem km_X2_gathers : kx_mi yX2_gathers cX2_gathers 6 none 3 := ⟨q1900, q134, q1901, by decide +kernel, by decide +kernel, by decide +kernel⟩
theorem km_X2_gathered : kx_mi yX2_gathered cX2_gathered 2 (some .int) 1 := ⟨q1941, q134, q1942, by decide +kernel, by decide +kernel, by decide +kernel⟩
theorem km_X2_kinds : kx_mi yX2_kinds cX2_kinds 3 (some .int) 0 := ⟨q1945, q134, q1946, by decide +kernel, by decide +kernel, by decide +kernel⟩
theorem km_X2_scores : kx_mi yX2_scores cX2_scores 2 none 1 := ⟨q1952, q134, q1953, by decide +kernel, by decide +kernel, by decide +kernel⟩
theorem km_X2_meets : kx_mi yX2_meets cX2_meets 7 none 3 := ⟨q1956, q134, q1957, by decide +kernel, by decide +kernel, by decide +kernel⟩
theorem km_X2_learns : kx_mi yX2_learns cX2_learns 6 none 3 := ⟨q1960, q134, q1961, by decide +kernel, by decide +kernel, by decide +kernel⟩
theorem km_X2_forgets : kx_mi yX2_forgets cX2_forgets 3 (some .int) 1 := ⟨q1985, q134, q1987, by decide +kernel, by decide +kernel, by decide +kernel⟩
theorem km_X2_weighs : kx_mi yX2_weighs cX2_weighs 4 (some .int) 2 := ⟨q2013, q134, q2015, by decide +kernel, by decide +kernel, by decide +kernel⟩
theorem km_X2_sets : kx_mi yX2_sets cX2_sets 4 (some .int) 2 := ⟨q2020, q134, q2022, by decide +kernel, by decide +kernel, by decide +kernel⟩
theorem km_X2_goesThrough : kx_mi yX2_goesThrough cX2_goesThrough 4 (some .int) 0 := ⟨q2424, q134, q2426, by decide +kernel, by decide +kernel, by decide +kernel⟩
theorem km_X2_speakers : kx_mi yX2_speakers cX2_speakers 3 (some (.object "RoseProverbs$Rose$Speakers")) 2 := ⟨q2624, q134, q2626, by decide +kernel, by decide +kernel, by decide +kernel⟩
theorem km_X2_voice : kx_mi yX2_voice cX2_voice 4 (some .int) 3 := ⟨q2681, q134, q2683, by decide +kernel, by decide +kernel, by decide +kernel⟩
theorem km_X3_init : kx_mi yX3_init cX3_init 3 none 2 := ⟨q685, q156, q686, by decide +kernel, by decide +kernel, by decide +kernel⟩
theorem km_X3_saying : kx_mi yX3_saying cX3_saying 1 (some .int) 0 := ⟨q824, q156, q826, by decide +kernel, by decide +kernel, by decide +kernel⟩
theorem km_X3_init_2 : kx_mi yX3_init_2 cX3_init_2 2 none 1 := ⟨q1169, q156, q1170, by decide +kernel, by decide +kernel, by decide +kernel⟩
theorem km_X3_takes : kx_mi yX3_takes cX3_takes 2 none 1 := ⟨q1172, q156, q1174, by decide +kernel, by decide +kernel, by decide +kernel⟩
theorem km_X3_saying_2 : kx_ms yX3_saying_2 cX3_saying_2 1 (some .int) 1 := ⟨q1516, q156, q1517, by decide +kernel, by decide +kernel, by decide +kernel⟩
theorem km_X3_speaks : kx_mi yX3_speaks cX3_speaks 3 (some .boolean) 2 := ⟨q1903, q156, q1905, by decide +kernel, by decide +kernel, by decide +kernel⟩
theorem km_X3_isAt : kx_mi yX3_isAt cX3_isAt 3 (some .boolean) 2 := ⟨q1907, q156, q1909, by decide +kernel, by decide +kernel, by decide +kernel⟩
theorem km_X3_learns : kx_mi yX3_learns cX3_learns 4 none 3 := ⟨q1963, q156, q1965, by decide +kernel, by decide +kernel, by decide +kernel⟩
theorem km_X3_clashes : kx_mi yX3_clashes cX3_clashes 2 (some .boolean) 1 := ⟨q2523, q156, q2525, by decide +kernel, by decide +kernel, by decide +kernel⟩
theorem km_X3_meets : kx_mi yX3_meets cX3_meets 4 (some .boolean) 1 := ⟨q2527, q156, q2529, by decide +kernel, by decide +kernel, by decide +kernel⟩
theorem km_X3_points : kx_mi yX3_points cX3_points 1 (some .int) 0 := ⟨q2597, q156, q2599, by decide +kernel, by decide +kernel, by decide +kernel⟩
theorem km_X3_months : kx_mi yX3_months cX3_months 1 (some .int) 0 := ⟨q2601, q156, q2603, by decide +kernel, by decide +kernel, by decide +kernel⟩
theorem km_X4_init : kx_mi yX4_init cX4_init 2 none 0 := ⟨q2955, q164, q2956, by decide +kernel, by decide +kernel, by decide +kernel⟩
theorem km_X4_begins : kx_mi yX4_begins cX4_begins 2 none 0 := ⟨q2960, q164, q2961, by decide +kernel, by decide +kernel, by decide +kernel⟩
theorem km_X4_adds : kx_mi yX4_adds cX4_adds 9 (some .int) 6 := ⟨q2964, q164, q2965, by decide +kernel, by decide +kernel, by decide +kernel⟩
theorem km_X4_puts : kx_mi yX4_puts cX4_puts 4 none 3 := ⟨q2968, q164, q2969, by decide +kernel, by decide +kernel, by decide +kernel⟩
theorem km_X4_thrown : kx_mi yX4_thrown cX4_thrown 1 (some .int) 0 := ⟨q3056, q164, q3058, by decide +kernel, by decide +kernel, by decide +kernel⟩
theorem km_X4_appendInput : kx_mi yX4_appendInput cX4_appendInput 6 (some .int) 5 := ⟨q3060, q164, q3062, by decide +kernel, by decide +kernel, by decide +kernel⟩
theorem km_X4_appendWord : kx_mi yX4_appendWord cX4_appendWord 3 none 1 := ⟨q3065, q164, q3066, by decide +kernel, by decide +kernel, by decide +kernel⟩
theorem km_X4_truncateInput : kx_mi yX4_truncateInput cX4_truncateInput 2 (some .boolean) 1 := ⟨q3068, q164, q3070, by decide +kernel, by decide +kernel, by decide +kernel⟩
theorem km_X4_inRange : kx_ms yX4_inRange cX4_inRange 3 (some .boolean) 3 := ⟨q3072, q164, q3073, by decide +kernel, by decide +kernel, by decide +kernel⟩
theorem km_X4_loadRose : kx_mi yX4_loadRose cX4_loadRose 2 (some .int) 0 := ⟨q3075, q164, q3077, by decide +kernel, by decide +kernel, by decide +kernel⟩
theorem km_X4_copies : kx_ms yX4_copies cX4_copies 5 none 4 := ⟨q3079, q164, q3080, by decide +kernel, by decide +kernel, by decide +kernel⟩
theorem km_X4_startsText : kx_mi yX4_startsText cX4_startsText 1 none 0 := ⟨q3083, q164, q3084, by decide +kernel, by decide +kernel, by decide +kernel⟩
theorem km_X4_advanceToken : kx_mi yX4_advanceToken cX4_advanceToken 2 none 0 := ⟨q3087, q164, q3088, by decide +kernel, by decide +kernel, by decide +kernel⟩
theorem km_X4_byteAt : kx_mi yX4_byteAt cX4_byteAt 2 (some .int) 1 := ⟨q3091, q164, q3092, by decide +kernel, by decide +kernel, by decide +kernel⟩
theorem km_X4_isLetter : kx_mi yX4_isLetter cX4_isLetter 2 (some .boolean) 1 := ⟨q3095, q164, q3096, by decide +kernel, by decide +kernel, by decide +kernel⟩
theorem km_X4_readText : kx_mi yX4_readText cX4_readText 1 (some .boolean) 0 := ⟨q3099, q164, q3100, by decide +kernel, by decide +kernel, by decide +kernel⟩
theorem km_X4_readSetupStatement : kx_mi yX4_readSetupStatement cX4_readSetupStatement 2 (some .boolean) 0 := ⟨q3103, q164, q3104, by decide +kernel, by decide +kernel, by decide +kernel⟩
theorem km_X4_isWord : kx_mi yX4_isWord cX4_isWord 3 (some .boolean) 1 := ⟨q3108, q164, q3109, by decide +kernel, by decide +kernel, by decide +kernel⟩
theorem km_X4_readProverb : kx_mi yX4_readProverb cX4_readProverb 2 (some .boolean) 0 := ⟨q3114, q164, q3115, by decide +kernel, by decide +kernel, by decide +kernel⟩
theorem km_X4_failsAt : kx_mi yX4_failsAt cX4_failsAt 2 (some .boolean) 1 := ⟨q3118, q164, q3119, by decide +kernel, by decide +kernel, by decide +kernel⟩
theorem km_X4_takesProverb : kx_mi yX4_takesProverb cX4_takesProverb 1 (some .boolean) 0 := ⟨q3122, q164, q3123, by decide +kernel, by decide +kernel, by decide +kernel⟩
theorem km_X4_takes : kx_mi yX4_takes cX4_takes 4 (some .boolean) 3 := ⟨q3126, q164, q3127, by decide +kernel, by decide +kernel, by decide +kernel⟩
theorem km_X4_takesNumber : kx_mi yX4_takesNumber cX4_takesNumber 3 (some .boolean) 2 := ⟨q3130, q164, q3131, by decide +kernel, by decide +kernel, by decide +kernel⟩
theorem km_X4_seesNumber : kx_mi yX4_seesNumber cX4_seesNumber 3 (some .boolean) 2 := ⟨q3134, q164, q3135, by decide +kernel, by decide +kernel, by decide +kernel⟩
theorem km_X4_isTwice : kx_mi yX4_isTwice cX4_isTwice 8 (some .boolean) 5 := ⟨q3138, q164, q3139, by decide +kernel, by decide +kernel, by decide +kernel⟩
theorem km_X4_of : kx_mi yX4_of cX4_of 3 (some .int) 2 := ⟨q3142, q164, q3143, by decide +kernel, by decide +kernel, by decide +kernel⟩
theorem km_X4_isLive : kx_mi yX4_isLive cX4_isLive 2 (some .boolean) 1 := ⟨q3146, q164, q3147, by decide +kernel, by decide +kernel, by decide +kernel⟩
theorem km_X4_settingHere : kx_mi yX4_settingHere cX4_settingHere 1 (some .int) 0 := ⟨q3150, q164, q3151, by decide +kernel, by decide +kernel, by decide +kernel⟩
theorem km_X4_readSetting : kx_mi yX4_readSetting cX4_readSetting 2 (some .boolean) 1 := ⟨q3157, q164, q3158, by decide +kernel, by decide +kernel, by decide +kernel⟩
theorem km_X4_mostOf : kx_ms yX4_mostOf cX4_mostOf 1 (some .int) 1 := ⟨q3160, q164, q3161, by decide +kernel, by decide +kernel, by decide +kernel⟩
theorem km_X4_takesSemicolon : kx_mi yX4_takesSemicolon cX4_takesSemicolon 1 (some .boolean) 0 := ⟨q3164, q164, q3165, by decide +kernel, by decide +kernel, by decide +kernel⟩
theorem km_X4_endsText : kx_mi yX4_endsText cX4_endsText 1 none 0 := ⟨q3168, q164, q3169, by decide +kernel, by decide +kernel, by decide +kernel⟩
theorem km_X4_playScript : kx_mi yX4_playScript cX4_playScript 3 (some .int) 0 := ⟨q3171, q164, q3173, by decide +kernel, by decide +kernel, by decide +kernel⟩
theorem km_X4_readScriptStatement : kx_mi yX4_readScriptStatement cX4_readScriptStatement 3 (some .boolean) 0 := ⟨q3176, q164, q3177, by decide +kernel, by decide +kernel, by decide +kernel⟩
theorem km_X4_scriptHere : kx_mi yX4_scriptHere cX4_scriptHere 1 (some .int) 0 := ⟨q3180, q164, q3181, by decide +kernel, by decide +kernel, by decide +kernel⟩
theorem km_X4_takesRest : kx_mi yX4_takesRest cX4_takesRest 3 (some .boolean) 1 := ⟨q3187, q164, q3188, by decide +kernel, by decide +kernel, by decide +kernel⟩
theorem km_X4_remembers : kx_mi yX4_remembers cX4_remembers 2 none 0 := ⟨q3191, q164, q3192, by decide +kernel, by decide +kernel, by decide +kernel⟩
theorem km_X4_does : kx_mi yX4_does cX4_does 3 (some .boolean) 1 := ⟨q3195, q164, q3196, by decide +kernel, by decide +kernel, by decide +kernel⟩
theorem km_X4_passesNow : kx_mi yX4_passesNow cX4_passesNow 5 (some .int) 2 := ⟨q3199, q164, q3200, by decide +kernel, by decide +kernel, by decide +kernel⟩
theorem km_X4_passes : kx_mi yX4_passes cX4_passes 3 (some .int) 2 := ⟨q3203, q164, q3204, by decide +kernel, by decide +kernel, by decide +kernel⟩
theorem km_X4_monthOf : kx_mi yX4_monthOf cX4_monthOf 2 (some .int) 1 := ⟨q3207, q164, q3208, by decide +kernel, by decide +kernel, by decide +kernel⟩
theorem km_X4_passesIn : kx_mi yX4_passesIn cX4_passesIn 8 (some .int) 3 := ⟨q3211, q164, q3212, by decide +kernel, by decide +kernel, by decide +kernel⟩
theorem km_X4_toldAt : kx_mi yX4_toldAt cX4_toldAt 7 (some .int) 2 := ⟨q3215, q164, q3216, by decide +kernel, by decide +kernel, by decide +kernel⟩
theorem km_X4_voiceOf : kx_mi yX4_voiceOf cX4_voiceOf 8 (some .int) 3 := ⟨q3219, q164, q3220, by decide +kernel, by decide +kernel, by decide +kernel⟩
theorem km_X4_isSpeaking : kx_mi yX4_isSpeaking cX4_isSpeaking 4 (some .boolean) 3 := ⟨q3223, q164, q3224, by decide +kernel, by decide +kernel, by decide +kernel⟩
theorem km_X4_hasPoint : kx_mi yX4_hasPoint cX4_hasPoint 3 (some .boolean) 2 := ⟨q3227, q164, q3228, by decide +kernel, by decide +kernel, by decide +kernel⟩
theorem km_X4_isWithin : kx_ms yX4_isWithin cX4_isWithin 4 (some .boolean) 4 := ⟨q3230, q164, q3231, by decide +kernel, by decide +kernel, by decide +kernel⟩
theorem km_X4_width : kx_ms yX4_width cX4_width 3 (some .int) 3 := ⟨q3236, q164, q3237, by decide +kernel, by decide +kernel, by decide +kernel⟩
theorem km_X4_hasMonth : kx_mi yX4_hasMonth cX4_hasMonth 3 (some .boolean) 2 := ⟨q3240, q164, q3241, by decide +kernel, by decide +kernel, by decide +kernel⟩
theorem km_X4_meets : kx_mi yX4_meets cX4_meets 4 none 3 := ⟨q3245, q164, q3246, by decide +kernel, by decide +kernel, by decide +kernel⟩
theorem km_X4_one : kx_ms yX4_one cX4_one 1 (some .int) 1 := ⟨q3248, q164, q3249, by decide +kernel, by decide +kernel, by decide +kernel⟩
theorem km_X4_rises : kx_mi yX4_rises cX4_rises 3 none 1 := ⟨q3252, q164, q3253, by decide +kernel, by decide +kernel, by decide +kernel⟩
theorem km_X4_counts : kx_mi yX4_counts cX4_counts 3 none 2 := ⟨q3257, q164, q3258, by decide +kernel, by decide +kernel, by decide +kernel⟩
theorem km_X4_falls : kx_mi yX4_falls cX4_falls 3 none 1 := ⟨q3261, q164, q3262, by decide +kernel, by decide +kernel, by decide +kernel⟩
theorem km_X4_countsYear : kx_mi yX4_countsYear cX4_countsYear 5 none 2 := ⟨q3265, q164, q3266, by decide +kernel, by decide +kernel, by decide +kernel⟩
theorem km_X4_mayCome : kx_mi yX4_mayCome cX4_mayCome 1 (some .boolean) 0 := ⟨q3269, q164, q3270, by decide +kernel, by decide +kernel, by decide +kernel⟩
theorem km_X4_comes : kx_mi yX4_comes cX4_comes 7 (some .int) 6 := ⟨q3273, q164, q3274, by decide +kernel, by decide +kernel, by decide +kernel⟩
theorem km_X4_forgets : kx_mi yX4_forgets cX4_forgets 2 (some .int) 1 := ⟨q3277, q164, q3278, by decide +kernel, by decide +kernel, by decide +kernel⟩
theorem km_X4_liveMany : kx_mi yX4_liveMany cX4_liveMany 3 (some .int) 0 := ⟨q3281, q164, q3282, by decide +kernel, by decide +kernel, by decide +kernel⟩
theorem km_X4_weighs : kx_mi yX4_weighs cX4_weighs 4 (some .int) 2 := ⟨q3285, q164, q3286, by decide +kernel, by decide +kernel, by decide +kernel⟩
theorem km_X4_sets : kx_mi yX4_sets cX4_sets 4 (some .int) 2 := ⟨q3289, q164, q3290, by decide +kernel, by decide +kernel, by decide +kernel⟩
theorem km_X4_errorCode : kx_mi yX4_errorCode cX4_errorCode 1 (some .int) 0 := ⟨q3292, q164, q3294, by decide +kernel, by decide +kernel, by decide +kernel⟩
theorem km_X4_errorOffset : kx_mi yX4_errorOffset cX4_errorOffset 1 (some .int) 0 := ⟨q3296, q164, q3298, by decide +kernel, by decide +kernel, by decide +kernel⟩
theorem km_X4_count : kx_mi yX4_count cX4_count 2 (some .int) 1 := ⟨q3300, q164, q3302, by decide +kernel, by decide +kernel, by decide +kernel⟩
theorem km_X4_fails : kx_mi yX4_fails cX4_fails 3 (some .boolean) 2 := ⟨q3305, q164, q3306, by decide +kernel, by decide +kernel, by decide +kernel⟩
theorem km_X4_allWeights : kx_mi yX4_allWeights cX4_allWeights 3 (some .int) 0 := ⟨q3309, q164, q3310, by decide +kernel, by decide +kernel, by decide +kernel⟩
theorem km_X4_allClashes : kx_mi yX4_allClashes cX4_allClashes 3 (some .int) 0 := ⟨q3313, q164, q3314, by decide +kernel, by decide +kernel, by decide +kernel⟩
theorem km_X4_clashesOf : kx_mi yX4_clashesOf cX4_clashesOf 4 (some .int) 1 := ⟨q3317, q164, q3318, by decide +kernel, by decide +kernel, by decide +kernel⟩
theorem km_X4_areClashing : kx_mi yX4_areClashing cX4_areClashing 3 (some .boolean) 2 := ⟨q3321, q164, q3322, by decide +kernel, by decide +kernel, by decide +kernel⟩
theorem km_X4_haveCommon : kx_ms yX4_haveCommon cX4_haveCommon 5 (some .boolean) 5 := ⟨q3324, q164, q3325, by decide +kernel, by decide +kernel, by decide +kernel⟩
theorem km_X4_silent : kx_mi yX4_silent cX4_silent 4 (some .int) 0 := ⟨q3328, q164, q3329, by decide +kernel, by decide +kernel, by decide +kernel⟩
theorem km_X4_speakersAt : kx_mi yX4_speakersAt cX4_speakersAt 5 (some .int) 2 := ⟨q3332, q164, q3333, by decide +kernel, by decide +kernel, by decide +kernel⟩
theorem km_X4_account : kx_mi yX4_account cX4_account 2 (some .int) 1 := ⟨q3335, q164, q3337, by decide +kernel, by decide +kernel, by decide +kernel⟩
theorem km_X4_proverb : kx_mi yX4_proverb cX4_proverb 3 (some .int) 2 := ⟨q3339, q164, q3341, by decide +kernel, by decide +kernel, by decide +kernel⟩
theorem km_X4_noProverb : kx_mi yX4_noProverb cX4_noProverb 2 (some .boolean) 1 := ⟨q3344, q164, q3345, by decide +kernel, by decide +kernel, by decide +kernel⟩
theorem km_X4_speaks : kx_mi yX4_speaks cX4_speaks 4 (some .boolean) 3 := ⟨q3347, q164, q3349, by decide +kernel, by decide +kernel, by decide +kernel⟩
theorem km_X4_noPlace : kx_mi yX4_noPlace cX4_noPlace 3 (some .boolean) 2 := ⟨q3352, q164, q3353, by decide +kernel, by decide +kernel, by decide +kernel⟩
theorem km_X4_noPoint : kx_mi yX4_noPoint cX4_noPoint 2 (some .boolean) 1 := ⟨q3356, q164, q3357, by decide +kernel, by decide +kernel, by decide +kernel⟩
theorem km_X4_speakers : kx_mi yX4_speakers cX4_speakers 3 (some .int) 2 := ⟨q3359, q164, q3361, by decide +kernel, by decide +kernel, by decide +kernel⟩
theorem km_X4_speaker : kx_mi yX4_speaker cX4_speaker 6 (some .int) 3 := ⟨q3363, q164, q3365, by decide +kernel, by decide +kernel, by decide +kernel⟩
theorem km_X4_voice : kx_mi yX4_voice cX4_voice 4 (some .int) 3 := ⟨q3367, q164, q3369, by decide +kernel, by decide +kernel, by decide +kernel⟩
theorem km_X4_noWeather : kx_mi yX4_noWeather cX4_noWeather 2 (some .boolean) 1 := ⟨q3372, q164, q3373, by decide +kernel, by decide +kernel, by decide +kernel⟩
theorem km_X4_told : kx_mi yX4_told cX4_told 3 (some .int) 2 := ⟨q3375, q164, q3377, by decide +kernel, by decide +kernel, by decide +kernel⟩
theorem km_X4_lead : kx_mi yX4_lead cX4_lead 6 (some .int) 2 := ⟨q3379, q164, q3381, by decide +kernel, by decide +kernel, by decide +kernel⟩
theorem km_X4_why : kx_mi yX4_why cX4_why 6 (some .int) 4 := ⟨q3383, q164, q3385, by decide +kernel, by decide +kernel, by decide +kernel⟩
theorem km_X4_reasonOf : kx_mi yX4_reasonOf cX4_reasonOf 6 (some .int) 3 := ⟨q3388, q164, q3389, by decide +kernel, by decide +kernel, by decide +kernel⟩
theorem km_X4_deeperOf : kx_mi yX4_deeperOf cX4_deeperOf 5 (some .int) 4 := ⟨q3392, q164, q3393, by decide +kernel, by decide +kernel, by decide +kernel⟩
theorem km_X4_tellers : kx_mi yX4_tellers cX4_tellers 6 (some .int) 3 := ⟨q3396, q164, q3397, by decide +kernel, by decide +kernel, by decide +kernel⟩
theorem km_X4_clash : kx_mi yX4_clash cX4_clash 3 (some .boolean) 2 := ⟨q3399, q164, q3401, by decide +kernel, by decide +kernel, by decide +kernel⟩
theorem km_X4_met : kx_mi yX4_met cX4_met 3 (some .int) 2 := ⟨q3403, q164, q3405, by decide +kernel, by decide +kernel, by decide +kernel⟩
theorem km_X4_metOf : kx_mi yX4_metOf cX4_metOf 3 (some .int) 2 := ⟨q3408, q164, q3409, by decide +kernel, by decide +kernel, by decide +kernel⟩
theorem km_X4_beat : kx_mi yX4_beat cX4_beat 3 (some .int) 2 := ⟨q3411, q164, q3413, by decide +kernel, by decide +kernel, by decide +kernel⟩
theorem km_X4_beatOf : kx_mi yX4_beatOf cX4_beatOf 3 (some .int) 2 := ⟨q3416, q164, q3417, by decide +kernel, by decide +kernel, by decide +kernel⟩
theorem km_X4_rival : kx_mi yX4_rival cX4_rival 5 (some .int) 1 := ⟨q3419, q164, q3421, by decide +kernel, by decide +kernel, by decide +kernel⟩
theorem km_X4_byWeight : kx_mi yX4_byWeight cX4_byWeight 3 (some .int) 1 := ⟨q3423, q164, q3425, by decide +kernel, by decide +kernel, by decide +kernel⟩
theorem km_X4_heavier : kx_mi yX4_heavier cX4_heavier 4 (some .int) 1 := ⟨q3428, q164, q3429, by decide +kernel, by decide +kernel, by decide +kernel⟩
theorem km_X4_year : kx_mi yX4_year cX4_year 3 (some .int) 2 := ⟨q3431, q164, q3433, by decide +kernel, by decide +kernel, by decide +kernel⟩
theorem km_X4_dayOf : kx_mi yX4_dayOf cX4_dayOf 3 (some .int) 2 := ⟨q3435, q164, q3437, by decide +kernel, by decide +kernel, by decide +kernel⟩
theorem km_X4_turnsIn : kx_mi yX4_turnsIn cX4_turnsIn 5 (some .int) 2 := ⟨q3439, q164, q3441, by decide +kernel, by decide +kernel, by decide +kernel⟩
theorem km_X4_goesAside : kx_mi yX4_goesAside cX4_goesAside 1 none 0 := ⟨q3444, q164, q3445, by decide +kernel, by decide +kernel, by decide +kernel⟩
theorem km_X4_goesBack : kx_mi yX4_goesBack cX4_goesBack 2 (some .int) 1 := ⟨q3448, q164, q3449, by decide +kernel, by decide +kernel, by decide +kernel⟩
theorem km_X4_weightIn : kx_mi yX4_weightIn cX4_weightIn 7 (some .int) 4 := ⟨q3451, q164, q3453, by decide +kernel, by decide +kernel, by decide +kernel⟩
theorem km_X4_rightBy : kx_mi yX4_rightBy cX4_rightBy 2 (some .int) 1 := ⟨q3455, q164, q3457, by decide +kernel, by decide +kernel, by decide +kernel⟩
theorem km_X4_rightWhen : kx_mi yX4_rightWhen cX4_rightWhen 3 (some .int) 2 := ⟨q3460, q164, q3461, by decide +kernel, by decide +kernel, by decide +kernel⟩
theorem km_X4_again : kx_mi yX4_again cX4_again 5 (some .int) 0 := ⟨q3464, q164, q3465, by decide +kernel, by decide +kernel, by decide +kernel⟩
theorem km_X4_bestRule : kx_mi yX4_bestRule cX4_bestRule 5 (some .int) 0 := ⟨q3467, q164, q3469, by decide +kernel, by decide +kernel, by decide +kernel⟩
theorem km_X4_rightWith : kx_mi yX4_rightWith cX4_rightWith 3 (some .int) 2 := ⟨q3471, q164, q3473, by decide +kernel, by decide +kernel, by decide +kernel⟩
theorem km_X4_harmOf : kx_mi yX4_harmOf cX4_harmOf 3 (some .int) 1 := ⟨q3475, q164, q3477, by decide +kernel, by decide +kernel, by decide +kernel⟩
theorem km_X4_reachOf : kx_mi yX4_reachOf cX4_reachOf 4 (some .int) 1 := ⟨q3479, q164, q3481, by decide +kernel, by decide +kernel, by decide +kernel⟩
theorem km_X4_agree : kx_mi yX4_agree cX4_agree 4 (some .boolean) 0 := ⟨q3483, q164, q3485, by decide +kernel, by decide +kernel, by decide +kernel⟩
theorem km_X4_isToldRight : kx_mi yX4_isToldRight cX4_isToldRight 11 (some .boolean) 2 := ⟨q3488, q164, q3489, by decide +kernel, by decide +kernel, by decide +kernel⟩
theorem km_X4_areMeetingsRight : kx_mi yX4_areMeetingsRight cX4_areMeetingsRight 3 (some .boolean) 1 := ⟨q3492, q164, q3493, by decide +kernel, by decide +kernel, by decide +kernel⟩
theorem km_X4_areDaysRight : kx_mi yX4_areDaysRight cX4_areDaysRight 3 (some .boolean) 0 := ⟨q3496, q164, q3497, by decide +kernel, by decide +kernel, by decide +kernel⟩
theorem km_X4_truth : kx_mi yX4_truth cX4_truth 3 (some .double) 0 := ⟨q3499, q164, q3501, by decide +kernel, by decide +kernel, by decide +kernel⟩
theorem km_X4_meanWeight : kx_mi yX4_meanWeight cX4_meanWeight 1 (some .float) 0 := ⟨q3503, q164, q3505, by decide +kernel, by decide +kernel, by decide +kernel⟩
theorem km_X4_day : kx_mi yX4_day cX4_day 3 (some .int) 2 := ⟨q3507, q164, q3509, by decide +kernel, by decide +kernel, by decide +kernel⟩
theorem km_X4_proverbNew : kx_mi yX4_proverbNew cX4_proverbNew 7 (some .int) 6 := ⟨q3511, q164, q3513, by decide +kernel, by decide +kernel, by decide +kernel⟩
theorem km_X4_forget : kx_mi yX4_forget cX4_forget 2 (some .int) 1 := ⟨q3515, q164, q3517, by decide +kernel, by decide +kernel, by decide +kernel⟩
theorem km_X4_weigh : kx_mi yX4_weigh cX4_weigh 3 (some .int) 2 := ⟨q3519, q164, q3521, by decide +kernel, by decide +kernel, by decide +kernel⟩
theorem km_X4_set : kx_mi yX4_set cX4_set 3 (some .int) 2 := ⟨q3523, q164, q3525, by decide +kernel, by decide +kernel, by decide +kernel⟩
theorem km_X4_undo : kx_mi yX4_undo cX4_undo 1 (some .int) 0 := ⟨q3527, q164, q3529, by decide +kernel, by decide +kernel, by decide +kernel⟩
theorem km_X4_printMonth : kx_mi yX4_printMonth cX4_printMonth 3 (some .int) 1 := ⟨q3531, q164, q3533, by decide +kernel, by decide +kernel, by decide +kernel⟩
theorem km_X4_write : kx_mi yX4_write cX4_write 2 none 1 := ⟨q3536, q164, q3537, by decide +kernel, by decide +kernel, by decide +kernel⟩
theorem km_X4_printProverb : kx_mi yX4_printProverb cX4_printProverb 2 (some .int) 1 := ⟨q3539, q164, q3541, by decide +kernel, by decide +kernel, by decide +kernel⟩
theorem km_X4_writeNumber : kx_mi yX4_writeNumber cX4_writeNumber 2 none 1 := ⟨q3544, q164, q3545, by decide +kernel, by decide +kernel, by decide +kernel⟩
theorem km_X4_outputByte : kx_mi yX4_outputByte cX4_outputByte 2 (some .int) 1 := ⟨q3547, q164, q3549, by decide +kernel, by decide +kernel, by decide +kernel⟩
theorem km_X4_saveState : kx_mi yX4_saveState cX4_saveState 2 (some .int) 0 := ⟨q3551, q164, q3553, by decide +kernel, by decide +kernel, by decide +kernel⟩
theorem km_X4_restoreState : kx_mi yX4_restoreState cX4_restoreState 2 (some .int) 0 := ⟨q3555, q164, q3557, by decide +kernel, by decide +kernel, by decide +kernel⟩
theorem km_X5_init : kx_mi yX5_init cX5_init 2 none 1 := ⟨q1263, q165, q1264, by decide +kernel, by decide +kernel, by decide +kernel⟩
theorem km_X5_advance : kx_mi yX5_advance cX5_advance 2 none 0 := ⟨q1268, q165, q1272, by decide +kernel, by decide +kernel, by decide +kernel⟩
theorem km_X5_at : kx_mi yX5_at cX5_at 2 (some .int) 1 := ⟨q1275, q165, q1277, by decide +kernel, by decide +kernel, by decide +kernel⟩
theorem km_X5_past : kx_mi yX5_past cX5_past 5 (some .int) 3 := ⟨q1283, q165, q1284, by decide +kernel, by decide +kernel, by decide +kernel⟩
theorem km_X5_text : kx_mi yX5_text cX5_text 5 (some (.object "java/lang/String")) 2 := ⟨q1287, q165, q1288, by decide +kernel, by decide +kernel, by decide +kernel⟩
theorem km_X5_isOver : kx_mi yX5_isOver cX5_isOver 1 (some .boolean) 0 := ⟨q1432, q165, q1433, by decide +kernel, by decide +kernel, by decide +kernel⟩
theorem km_X5_word : kx_mi yX5_word cX5_word 1 (some (.object "java/lang/String")) 0 := ⟨q1438, q165, q1439, by decide +kernel, by decide +kernel, by decide +kernel⟩
theorem km_X5_expect : kx_mi yX5_expect cX5_expect 3 none 2 := ⟨q1458, q165, q1459, by decide +kernel, by decide +kernel, by decide +kernel⟩
theorem km_X5_proverb : kx_mi yX5_proverb cX5_proverb 3 (some (.array .int)) 0 := ⟨q1496, q165, q1497, by decide +kernel, by decide +kernel, by decide +kernel⟩
theorem km_X5_number : kx_mi yX5_number cX5_number 4 (some .int) 2 := ⟨q1499, q165, q1503, by decide +kernel, by decide +kernel, by decide +kernel⟩
theorem km_X5_isSemicolon : kx_mi yX5_isSemicolon cX5_isSemicolon 1 (some .boolean) 0 := ⟨q1509, q165, q1510, by decide +kernel, by decide +kernel, by decide +kernel⟩
theorem km_X5_end : kx_mi yX5_end cX5_end 1 none 0 := ⟨q1610, q165, q1611, by decide +kernel, by decide +kernel, by decide +kernel⟩
theorem km_X6_init : kx_mi yX6_init cX6_init 2 none 1 := ⟨q1260, q166, q1261, by decide +kernel, by decide +kernel, by decide +kernel⟩
theorem km_X6_read : kx_mi yX6_read cX6_read 2 (some (.object "RoseProverbs$Rose")) 0 := ⟨q1425, q166, q1427, by decide +kernel, by decide +kernel, by decide +kernel⟩
theorem km_X6_proverbs : kx_mi yX6_proverbs cX6_proverbs 3 none 0 := ⟨q1450, q166, q1451, by decide +kernel, by decide +kernel, by decide +kernel⟩
theorem km_X6_setting : kx_mi yX6_setting cX6_setting 3 none 1 := ⟨q1533, q166, q1534, by decide +kernel, by decide +kernel, by decide +kernel⟩
theorem km_X7_init : kx_mi yX7_init cX7_init 3 none 2 := ⟨q1470, q171, q1471, by decide +kernel, by decide +kernel, by decide +kernel⟩
theorem km_X8_init : kx_mi yX8_init cX8_init 2 none 1 := ⟨q1632, q172, q1633, by decide +kernel, by decide +kernel, by decide +kernel⟩
theorem km_X8_read : kx_mi yX8_read cX8_read 3 (some (.object "java/util/List")) 0 := ⟨q1651, q172, q1653, by decide +kernel, by decide +kernel, by decide +kernel⟩
theorem km_X8_isDeed : kx_mi yX8_isDeed cX8_isDeed 4 (some .boolean) 1 := ⟨q1662, q172, q1663, by decide +kernel, by decide +kernel, by decide +kernel⟩
theorem km_X8_deed : kx_mi yX8_deed cX8_deed 4 (some (.object "RoseProverbs$Deed")) 1 := ⟨q1681, q172, q1682, by decide +kernel, by decide +kernel, by decide +kernel⟩
theorem km_X8_living : kx_mi yX8_living cX8_living 3 (some (.object "RoseProverbs$Deed")) 0 := ⟨q1685, q172, q1686, by decide +kernel, by decide +kernel, by decide +kernel⟩
theorem km_X8_coming : kx_mi yX8_coming cX8_coming 2 (some (.object "RoseProverbs$Deed")) 0 := ⟨q1711, q172, q1712, by decide +kernel, by decide +kernel, by decide +kernel⟩
theorem km_X8_forgetting : kx_mi yX8_forgetting cX8_forgetting 2 (some (.object "RoseProverbs$Deed")) 0 := ⟨q1731, q172, q1732, by decide +kernel, by decide +kernel, by decide +kernel⟩
theorem km_X8_weighing : kx_mi yX8_weighing cX8_weighing 3 (some (.object "RoseProverbs$Deed")) 0 := ⟨q1748, q172, q1749, by decide +kernel, by decide +kernel, by decide +kernel⟩
theorem km_X8_setting : kx_mi yX8_setting cX8_setting 4 (some (.object "RoseProverbs$Deed")) 1 := ⟨q1768, q172, q1769, by decide +kernel, by decide +kernel, by decide +kernel⟩
theorem km_X9_init : kx_mi yX9_init cX9_init 1 none 0 := ⟨q1696, q173, q1697, by decide +kernel, by decide +kernel, by decide +kernel⟩
