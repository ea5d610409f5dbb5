set_option maxRecDepth 100000
abbrev cJ9_checkFromToIndex : ByteArray := prog_45_method_12_code
def yJ9_checkFromToIndex : MethodName := ⟨RJ9, "checkFromToIndex", "(IIILjava/util/function/BiFunction;)I"⟩
def dkwJ9_checkFromToIndex_0 : List UInt8 := [26, 155, 0, 13, 26, 27, 163, 0, 8, 27, 28, 164, 0, 11, 45, 26, 27, 28, 184, 0, 99, 191, 26, 172]
abbrev dktJ9_checkFromToIndex_0 : List UInt8 := dkwJ9_checkFromToIndex_0 ++ []
theorem dksJ9_checkFromToIndex_0 : cJ9_checkFromToIndex.data.toList.drop 0 = dktJ9_checkFromToIndex_0 := by decide +kernel
theorem dJ9_checkFromToIndex_0 : decode cJ9_checkFromToIndex 0 = .ok (.iload_n 0, 1) := dk_26 (dk_at dksJ9_checkFromToIndex_0 0 rfl rfl)
theorem dJ9_checkFromToIndex_1 : decode cJ9_checkFromToIndex 1 = .ok (.ifCond .lt 13, 3) := dk_155 0 13 (dk_at dksJ9_checkFromToIndex_0 1 rfl rfl)
theorem dJ9_checkFromToIndex_4 : decode cJ9_checkFromToIndex 4 = .ok (.iload_n 0, 1) := dk_26 (dk_at dksJ9_checkFromToIndex_0 4 rfl rfl)
theorem dJ9_checkFromToIndex_5 : decode cJ9_checkFromToIndex 5 = .ok (.iload_n 1, 1) := dk_27 (dk_at dksJ9_checkFromToIndex_0 5 rfl rfl)
theorem dJ9_checkFromToIndex_6 : decode cJ9_checkFromToIndex 6 = .ok (.if_icmp .gt 8, 3) := dk_163 0 8 (dk_at dksJ9_checkFromToIndex_0 6 rfl rfl)
theorem dJ9_checkFromToIndex_9 : decode cJ9_checkFromToIndex 9 = .ok (.iload_n 1, 1) := dk_27 (dk_at dksJ9_checkFromToIndex_0 9 rfl rfl)
theorem dJ9_checkFromToIndex_10 : decode cJ9_checkFromToIndex 10 = .ok (.iload_n 2, 1) := dk_28 (dk_at dksJ9_checkFromToIndex_0 10 rfl rfl)
theorem dJ9_checkFromToIndex_11 : decode cJ9_checkFromToIndex 11 = .ok (.if_icmp .le 11, 3) := dk_164 0 11 (dk_at dksJ9_checkFromToIndex_0 11 rfl rfl)
theorem dJ9_checkFromToIndex_14 : decode cJ9_checkFromToIndex 14 = .ok (.aload_n 3, 1) := dk_45 (dk_at dksJ9_checkFromToIndex_0 14 rfl rfl)
theorem dJ9_checkFromToIndex_15 : decode cJ9_checkFromToIndex 15 = .ok (.iload_n 0, 1) := dk_26 (dk_at dksJ9_checkFromToIndex_0 15 rfl rfl)
theorem dJ9_checkFromToIndex_16 : decode cJ9_checkFromToIndex 16 = .ok (.iload_n 1, 1) := dk_27 (dk_at dksJ9_checkFromToIndex_0 16 rfl rfl)
theorem dJ9_checkFromToIndex_17 : decode cJ9_checkFromToIndex 17 = .ok (.iload_n 2, 1) := dk_28 (dk_at dksJ9_checkFromToIndex_0 17 rfl rfl)
theorem dJ9_checkFromToIndex_18 : decode cJ9_checkFromToIndex 18 = .ok (.invokestatic 99, 3) := dk_184 0 99 (dk_at dksJ9_checkFromToIndex_0 18 rfl rfl)
theorem dJ9_checkFromToIndex_21 : decode cJ9_checkFromToIndex 21 = .ok (.athrow, 1) := dk_191 (dk_at dksJ9_checkFromToIndex_0 21 rfl rfl)
theorem dJ9_checkFromToIndex_22 : decode cJ9_checkFromToIndex 22 = .ok (.iload_n 0, 1) := dk_26 (dk_at dksJ9_checkFromToIndex_0 22 rfl rfl)
theorem dJ9_checkFromToIndex_23 : decode cJ9_checkFromToIndex 23 = .ok (.ireturn, 1) := dk_172 (dk_at dksJ9_checkFromToIndex_0 23 rfl rfl)
abbrev cJ9_checkIndex : ByteArray := prog_45_method_11_code
def yJ9_checkIndex : MethodName := ⟨RJ9, "checkIndex", "(IILjava/util/function/BiFunction;)I"⟩
def dkwJ9_checkIndex_0 : List UInt8 := [26, 155, 0, 8, 26, 27, 161, 0, 10, 44, 26, 27, 184, 0, 95, 191, 26, 172]
abbrev dktJ9_checkIndex_0 : List UInt8 := dkwJ9_checkIndex_0 ++ []
theorem dksJ9_checkIndex_0 : cJ9_checkIndex.data.toList.drop 0 = dktJ9_checkIndex_0 := by decide +kernel
theorem dJ9_checkIndex_0 : decode cJ9_checkIndex 0 = .ok (.iload_n 0, 1) := dk_26 (dk_at dksJ9_checkIndex_0 0 rfl rfl)
theorem dJ9_checkIndex_1 : decode cJ9_checkIndex 1 = .ok (.ifCond .lt 8, 3) := dk_155 0 8 (dk_at dksJ9_checkIndex_0 1 rfl rfl)
theorem dJ9_checkIndex_4 : decode cJ9_checkIndex 4 = .ok (.iload_n 0, 1) := dk_26 (dk_at dksJ9_checkIndex_0 4 rfl rfl)
theorem dJ9_checkIndex_5 : decode cJ9_checkIndex 5 = .ok (.iload_n 1, 1) := dk_27 (dk_at dksJ9_checkIndex_0 5 rfl rfl)
theorem dJ9_checkIndex_6 : decode cJ9_checkIndex 6 = .ok (.if_icmp .lt 10, 3) := dk_161 0 10 (dk_at dksJ9_checkIndex_0 6 rfl rfl)
theorem dJ9_checkIndex_9 : decode cJ9_checkIndex 9 = .ok (.aload_n 2, 1) := dk_44 (dk_at dksJ9_checkIndex_0 9 rfl rfl)
theorem dJ9_checkIndex_10 : decode cJ9_checkIndex 10 = .ok (.iload_n 0, 1) := dk_26 (dk_at dksJ9_checkIndex_0 10 rfl rfl)
theorem dJ9_checkIndex_11 : decode cJ9_checkIndex 11 = .ok (.iload_n 1, 1) := dk_27 (dk_at dksJ9_checkIndex_0 11 rfl rfl)
theorem dJ9_checkIndex_12 : decode cJ9_checkIndex 12 = .ok (.invokestatic 95, 3) := dk_184 0 95 (dk_at dksJ9_checkIndex_0 12 rfl rfl)
theorem dJ9_checkIndex_15 : decode cJ9_checkIndex 15 = .ok (.athrow, 1) := dk_191 (dk_at dksJ9_checkIndex_0 15 rfl rfl)
theorem dJ9_checkIndex_16 : decode cJ9_checkIndex 16 = .ok (.iload_n 0, 1) := dk_26 (dk_at dksJ9_checkIndex_0 16 rfl rfl)
theorem dJ9_checkIndex_17 : decode cJ9_checkIndex 17 = .ok (.ireturn, 1) := dk_172 (dk_at dksJ9_checkIndex_0 17 rfl rfl)
abbrev cJ13_checkIndex : ByteArray := prog_41_method_17_code
def yJ13_checkIndex : MethodName := ⟨RJ13, "checkIndex", "(II)I"⟩
def dkwJ13_checkIndex_0 : List UInt8 := [26, 27, 1, 184, 0, 105, 172]
abbrev dktJ13_checkIndex_0 : List UInt8 := dkwJ13_checkIndex_0 ++ []
theorem dksJ13_checkIndex_0 : cJ13_checkIndex.data.toList.drop 0 = dktJ13_checkIndex_0 := by decide +kernel
theorem dJ13_checkIndex_0 : decode cJ13_checkIndex 0 = .ok (.iload_n 0, 1) := dk_26 (dk_at dksJ13_checkIndex_0 0 rfl rfl)
theorem dJ13_checkIndex_1 : decode cJ13_checkIndex 1 = .ok (.iload_n 1, 1) := dk_27 (dk_at dksJ13_checkIndex_0 1 rfl rfl)
theorem dJ13_checkIndex_2 : decode cJ13_checkIndex 2 = .ok (.aconst_null, 1) := dk_1 (dk_at dksJ13_checkIndex_0 2 rfl rfl)
theorem dJ13_checkIndex_3 : decode cJ13_checkIndex 3 = .ok (.invokestatic 105, 3) := dk_184 0 105 (dk_at dksJ13_checkIndex_0 3 rfl rfl)
theorem dJ13_checkIndex_6 : decode cJ13_checkIndex 6 = .ok (.ireturn, 1) := dk_172 (dk_at dksJ13_checkIndex_0 6 rfl rfl)
theorem hs_J9_checkFromToIndex : yJ9_checkFromToIndex.cls ≠ "java/lang/invoke/MethodHandle" ∧ yJ9_checkFromToIndex.cls ≠ "java/lang/invoke/VarHandle" ∧ (parseMethodDescriptor yJ9_checkFromToIndex.desc).map (fun d => d.parameters.length) = some 4 := by decide +kernel
theorem hv_J9_checkFromToIndex : yJ9_checkFromToIndex.cls = RJ9 ∧ yJ9_checkFromToIndex.cls ≠ "java/lang/invoke/MethodHandle" ∧ yJ9_checkFromToIndex.cls ≠ "java/lang/invoke/VarHandle" ∧ (parseMethodDescriptor yJ9_checkFromToIndex.desc).map (fun d => d.parameters.length) = some 4 := ⟨rfl, hs_J9_checkFromToIndex⟩
theorem hs_J9_checkIndex : yJ9_checkIndex.cls ≠ "java/lang/invoke/MethodHandle" ∧ yJ9_checkIndex.cls ≠ "java/lang/invoke/VarHandle" ∧ (parseMethodDescriptor yJ9_checkIndex.desc).map (fun d => d.parameters.length) = some 3 := by decide +kernel
theorem hv_J9_checkIndex : yJ9_checkIndex.cls = RJ9 ∧ yJ9_checkIndex.cls ≠ "java/lang/invoke/MethodHandle" ∧ yJ9_checkIndex.cls ≠ "java/lang/invoke/VarHandle" ∧ (parseMethodDescriptor yJ9_checkIndex.desc).map (fun d => d.parameters.length) = some 3 := ⟨rfl, hs_J9_checkIndex⟩
theorem hs_J13_checkIndex : yJ13_checkIndex.cls ≠ "java/lang/invoke/MethodHandle" ∧ yJ13_checkIndex.cls ≠ "java/lang/invoke/VarHandle" ∧ (parseMethodDescriptor yJ13_checkIndex.desc).map (fun d => d.parameters.length) = some 2 := by decide +kernel
theorem hv_J13_checkIndex : yJ13_checkIndex.cls = RJ13 ∧ yJ13_checkIndex.cls ≠ "java/lang/invoke/MethodHandle" ∧ yJ13_checkIndex.cls ≠ "java/lang/invoke/VarHandle" ∧ (parseMethodDescriptor yJ13_checkIndex.desc).map (fun d => d.parameters.length) = some 2 := ⟨rfl, hs_J13_checkIndex⟩
