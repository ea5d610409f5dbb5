set_option maxRecDepth 100000
abbrev cX1_init : ByteArray := prog_9_method_1_code
def yX1_init : MethodName := ⟨RX1, "<init>", "(II)V"⟩
def dkwX1_init_1 : List UInt8 := [181, 0, 22, 177]
abbrev dktX1_init_1 : List UInt8 := dkwX1_init_1 ++ []
def dkwX1_init_0 : List UInt8 := [42, 183, 0, 3, 42, 187, 0, 9, 89, 183, 0, 11, 181, 0, 12, 42, 27, 188, 8, 181, 0, 18, 42, 28]
abbrev dktX1_init_0 : List UInt8 := dkwX1_init_0 ++ dktX1_init_1
theorem dksX1_init_0 : cX1_init.data.toList.drop 0 = dktX1_init_0 := by decide +kernel
theorem dksX1_init_1 : cX1_init.data.toList.drop 24 = dktX1_init_1 := dk_seg dksX1_init_0 24 rfl rfl
theorem dX1_init_0 : decode cX1_init 0 = .ok (.aload_n 0, 1) := dk_42 (dk_at dksX1_init_0 0 rfl rfl)
theorem dX1_init_1 : decode cX1_init 1 = .ok (.invokespecial 3, 3) := dk_183 0 3 (dk_at dksX1_init_0 1 rfl rfl)
theorem dX1_init_4 : decode cX1_init 4 = .ok (.aload_n 0, 1) := dk_42 (dk_at dksX1_init_0 4 rfl rfl)
theorem dX1_init_5 : decode cX1_init 5 = .ok (.new 9, 3) := dk_187 0 9 (dk_at dksX1_init_0 5 rfl rfl)
theorem dX1_init_8 : decode cX1_init 8 = .ok (.dup, 1) := dk_89 (dk_at dksX1_init_0 8 rfl rfl)
theorem dX1_init_9 : decode cX1_init 9 = .ok (.invokespecial 11, 3) := dk_183 0 11 (dk_at dksX1_init_0 9 rfl rfl)
theorem dX1_init_12 : decode cX1_init 12 = .ok (.putfield 12, 3) := dk_181 0 12 (dk_at dksX1_init_0 12 rfl rfl)
theorem dX1_init_15 : decode cX1_init 15 = .ok (.aload_n 0, 1) := dk_42 (dk_at dksX1_init_0 15 rfl rfl)
theorem dX1_init_16 : decode cX1_init 16 = .ok (.iload_n 1, 1) := dk_27 (dk_at dksX1_init_0 16 rfl rfl)
theorem dX1_init_17 : decode cX1_init 17 = .ok (.newarray .byte, 2) := dk_188_8 (dk_at dksX1_init_0 17 rfl rfl)
theorem dX1_init_19 : decode cX1_init 19 = .ok (.putfield 18, 3) := dk_181 0 18 (dk_at dksX1_init_0 19 rfl rfl)
theorem dX1_init_22 : decode cX1_init 22 = .ok (.aload_n 0, 1) := dk_42 (dk_at dksX1_init_0 22 rfl rfl)
theorem dX1_init_23 : decode cX1_init 23 = .ok (.iload_n 2, 1) := dk_28 (dk_at dksX1_init_0 23 rfl rfl)
theorem dX1_init_24 : decode cX1_init 24 = .ok (.putfield 22, 3) := dk_181 0 22 (dk_at dksX1_init_1 0 rfl rfl)
theorem dX1_init_27 : decode cX1_init 27 = .ok (.return_, 1) := dk_177 (dk_at dksX1_init_1 3 rfl rfl)
abbrev cX1_type : ByteArray := prog_9_method_3_code
def yX1_type : MethodName := ⟨RX1, "type", "(I)I"⟩
def dkwX1_type_1 : List UInt8 := [145, 84, 42, 89, 180, 0, 26, 4, 96, 181, 0, 26, 42, 3, 181, 0, 29, 42, 180, 0, 26, 172]
abbrev dktX1_type_1 : List UInt8 := dkwX1_type_1 ++ []
def dkwX1_type_0 : List UInt8 := [42, 180, 0, 26, 42, 180, 0, 18, 190, 160, 0, 6, 16, 252, 172, 42, 180, 0, 18, 42, 180, 0, 26, 27]
abbrev dktX1_type_0 : List UInt8 := dkwX1_type_0 ++ dktX1_type_1
theorem dksX1_type_0 : cX1_type.data.toList.drop 0 = dktX1_type_0 := by decide +kernel
theorem dksX1_type_1 : cX1_type.data.toList.drop 24 = dktX1_type_1 := dk_seg dksX1_type_0 24 rfl rfl
theorem dX1_type_0 : decode cX1_type 0 = .ok (.aload_n 0, 1) := dk_42 (dk_at dksX1_type_0 0 rfl rfl)
theorem dX1_type_1 : decode cX1_type 1 = .ok (.getfield 26, 3) := dk_180 0 26 (dk_at dksX1_type_0 1 rfl rfl)
theorem dX1_type_4 : decode cX1_type 4 = .ok (.aload_n 0, 1) := dk_42 (dk_at dksX1_type_0 4 rfl rfl)
theorem dX1_type_5 : decode cX1_type 5 = .ok (.getfield 18, 3) := dk_180 0 18 (dk_at dksX1_type_0 5 rfl rfl)
theorem dX1_type_8 : decode cX1_type 8 = .ok (.arraylength, 1) := dk_190 (dk_at dksX1_type_0 8 rfl rfl)
theorem dX1_type_9 : decode cX1_type 9 = .ok (.if_icmp .ne 6, 3) := dk_160 0 6 (dk_at dksX1_type_0 9 rfl rfl)
theorem dX1_type_12 : decode cX1_type 12 = .ok (.bipush (-4), 2) := dk_16 252 (dk_at dksX1_type_0 12 rfl rfl)
theorem dX1_type_14 : decode cX1_type 14 = .ok (.ireturn, 1) := dk_172 (dk_at dksX1_type_0 14 rfl rfl)
theorem dX1_type_15 : decode cX1_type 15 = .ok (.aload_n 0, 1) := dk_42 (dk_at dksX1_type_0 15 rfl rfl)
theorem dX1_type_16 : decode cX1_type 16 = .ok (.getfield 18, 3) := dk_180 0 18 (dk_at dksX1_type_0 16 rfl rfl)
theorem dX1_type_19 : decode cX1_type 19 = .ok (.aload_n 0, 1) := dk_42 (dk_at dksX1_type_0 19 rfl rfl)
theorem dX1_type_20 : decode cX1_type 20 = .ok (.getfield 26, 3) := dk_180 0 26 (dk_at dksX1_type_0 20 rfl rfl)
theorem dX1_type_23 : decode cX1_type 23 = .ok (.iload_n 1, 1) := dk_27 (dk_at dksX1_type_0 23 rfl rfl)
theorem dX1_type_24 : decode cX1_type 24 = .ok (.i2b, 1) := dk_145 (dk_at dksX1_type_1 0 rfl rfl)
theorem dX1_type_25 : decode cX1_type 25 = .ok (.bastore, 1) := dk_84 (dk_at dksX1_type_1 1 rfl rfl)
theorem dX1_type_26 : decode cX1_type 26 = .ok (.aload_n 0, 1) := dk_42 (dk_at dksX1_type_1 2 rfl rfl)
theorem dX1_type_27 : decode cX1_type 27 = .ok (.dup, 1) := dk_89 (dk_at dksX1_type_1 3 rfl rfl)
theorem dX1_type_28 : decode cX1_type 28 = .ok (.getfield 26, 3) := dk_180 0 26 (dk_at dksX1_type_1 4 rfl rfl)
theorem dX1_type_31 : decode cX1_type 31 = .ok (.iconst 1, 1) := dk_4 (dk_at dksX1_type_1 7 rfl rfl)
theorem dX1_type_32 : decode cX1_type 32 = .ok (.iadd, 1) := dk_96 (dk_at dksX1_type_1 8 rfl rfl)
theorem dX1_type_33 : decode cX1_type 33 = .ok (.putfield 26, 3) := dk_181 0 26 (dk_at dksX1_type_1 9 rfl rfl)
theorem dX1_type_36 : decode cX1_type 36 = .ok (.aload_n 0, 1) := dk_42 (dk_at dksX1_type_1 12 rfl rfl)
theorem dX1_type_37 : decode cX1_type 37 = .ok (.iconst 0, 1) := dk_3 (dk_at dksX1_type_1 13 rfl rfl)
theorem dX1_type_38 : decode cX1_type 38 = .ok (.putfield 29, 3) := dk_181 0 29 (dk_at dksX1_type_1 14 rfl rfl)
theorem dX1_type_41 : decode cX1_type 41 = .ok (.aload_n 0, 1) := dk_42 (dk_at dksX1_type_1 17 rfl rfl)
theorem dX1_type_42 : decode cX1_type 42 = .ok (.getfield 26, 3) := dk_180 0 26 (dk_at dksX1_type_1 18 rfl rfl)
theorem dX1_type_45 : decode cX1_type 45 = .ok (.ireturn, 1) := dk_172 (dk_at dksX1_type_1 21 rfl rfl)
abbrev cX1_wipe : ByteArray := prog_9_method_4_code
def yX1_wipe : MethodName := ⟨RX1, "wipe", "()I"⟩
def dkwX1_wipe_0 : List UInt8 := [42, 180, 0, 26, 60, 42, 3, 181, 0, 26, 42, 3, 181, 0, 29, 27, 172]
abbrev dktX1_wipe_0 : List UInt8 := dkwX1_wipe_0 ++ []
theorem dksX1_wipe_0 : cX1_wipe.data.toList.drop 0 = dktX1_wipe_0 := by decide +kernel
theorem dX1_wipe_0 : decode cX1_wipe 0 = .ok (.aload_n 0, 1) := dk_42 (dk_at dksX1_wipe_0 0 rfl rfl)
theorem dX1_wipe_1 : decode cX1_wipe 1 = .ok (.getfield 26, 3) := dk_180 0 26 (dk_at dksX1_wipe_0 1 rfl rfl)
theorem dX1_wipe_4 : decode cX1_wipe 4 = .ok (.istore_n 1, 1) := dk_60 (dk_at dksX1_wipe_0 4 rfl rfl)
theorem dX1_wipe_5 : decode cX1_wipe 5 = .ok (.aload_n 0, 1) := dk_42 (dk_at dksX1_wipe_0 5 rfl rfl)
theorem dX1_wipe_6 : decode cX1_wipe 6 = .ok (.iconst 0, 1) := dk_3 (dk_at dksX1_wipe_0 6 rfl rfl)
theorem dX1_wipe_7 : decode cX1_wipe 7 = .ok (.putfield 26, 3) := dk_181 0 26 (dk_at dksX1_wipe_0 7 rfl rfl)
theorem dX1_wipe_10 : decode cX1_wipe 10 = .ok (.aload_n 0, 1) := dk_42 (dk_at dksX1_wipe_0 10 rfl rfl)
theorem dX1_wipe_11 : decode cX1_wipe 11 = .ok (.iconst 0, 1) := dk_3 (dk_at dksX1_wipe_0 11 rfl rfl)
theorem dX1_wipe_12 : decode cX1_wipe 12 = .ok (.putfield 29, 3) := dk_181 0 29 (dk_at dksX1_wipe_0 12 rfl rfl)
theorem dX1_wipe_15 : decode cX1_wipe 15 = .ok (.iload_n 1, 1) := dk_27 (dk_at dksX1_wipe_0 15 rfl rfl)
theorem dX1_wipe_16 : decode cX1_wipe 16 = .ok (.ireturn, 1) := dk_172 (dk_at dksX1_wipe_0 16 rfl rfl)
abbrev cX1_undo : ByteArray := prog_9_method_5_code
def yX1_undo : MethodName := ⟨RX1, "undo", "()I"⟩
def dkwX1_undo_1 : List UInt8 := [181, 0, 29, 42, 180, 0, 26, 172]
abbrev dktX1_undo_1 : List UInt8 := dkwX1_undo_1 ++ []
def dkwX1_undo_0 : List UInt8 := [42, 180, 0, 26, 154, 0, 6, 16, 253, 172, 42, 89, 180, 0, 26, 4, 100, 181, 0, 26, 42, 3]
abbrev dktX1_undo_0 : List UInt8 := dkwX1_undo_0 ++ dktX1_undo_1
theorem dksX1_undo_0 : cX1_undo.data.toList.drop 0 = dktX1_undo_0 := by decide +kernel
theorem dksX1_undo_1 : cX1_undo.data.toList.drop 22 = dktX1_undo_1 := dk_seg dksX1_undo_0 22 rfl rfl
theorem dX1_undo_0 : decode cX1_undo 0 = .ok (.aload_n 0, 1) := dk_42 (dk_at dksX1_undo_0 0 rfl rfl)
theorem dX1_undo_1 : decode cX1_undo 1 = .ok (.getfield 26, 3) := dk_180 0 26 (dk_at dksX1_undo_0 1 rfl rfl)
theorem dX1_undo_4 : decode cX1_undo 4 = .ok (.ifCond .ne 6, 3) := dk_154 0 6 (dk_at dksX1_undo_0 4 rfl rfl)
theorem dX1_undo_7 : decode cX1_undo 7 = .ok (.bipush (-3), 2) := dk_16 253 (dk_at dksX1_undo_0 7 rfl rfl)
theorem dX1_undo_9 : decode cX1_undo 9 = .ok (.ireturn, 1) := dk_172 (dk_at dksX1_undo_0 9 rfl rfl)
theorem dX1_undo_10 : decode cX1_undo 10 = .ok (.aload_n 0, 1) := dk_42 (dk_at dksX1_undo_0 10 rfl rfl)
theorem dX1_undo_11 : decode cX1_undo 11 = .ok (.dup, 1) := dk_89 (dk_at dksX1_undo_0 11 rfl rfl)
theorem dX1_undo_12 : decode cX1_undo 12 = .ok (.getfield 26, 3) := dk_180 0 26 (dk_at dksX1_undo_0 12 rfl rfl)
theorem dX1_undo_15 : decode cX1_undo 15 = .ok (.iconst 1, 1) := dk_4 (dk_at dksX1_undo_0 15 rfl rfl)
theorem dX1_undo_16 : decode cX1_undo 16 = .ok (.isub, 1) := dk_100 (dk_at dksX1_undo_0 16 rfl rfl)
theorem dX1_undo_17 : decode cX1_undo 17 = .ok (.putfield 26, 3) := dk_181 0 26 (dk_at dksX1_undo_0 17 rfl rfl)
theorem dX1_undo_20 : decode cX1_undo 20 = .ok (.aload_n 0, 1) := dk_42 (dk_at dksX1_undo_0 20 rfl rfl)
theorem dX1_undo_21 : decode cX1_undo 21 = .ok (.iconst 0, 1) := dk_3 (dk_at dksX1_undo_0 21 rfl rfl)
theorem dX1_undo_22 : decode cX1_undo 22 = .ok (.putfield 29, 3) := dk_181 0 29 (dk_at dksX1_undo_1 0 rfl rfl)
theorem dX1_undo_25 : decode cX1_undo 25 = .ok (.aload_n 0, 1) := dk_42 (dk_at dksX1_undo_1 3 rfl rfl)
theorem dX1_undo_26 : decode cX1_undo 26 = .ok (.getfield 26, 3) := dk_180 0 26 (dk_at dksX1_undo_1 4 rfl rfl)
theorem dX1_undo_29 : decode cX1_undo 29 = .ok (.ireturn, 1) := dk_172 (dk_at dksX1_undo_1 7 rfl rfl)
abbrev cX1_read : ByteArray := prog_9_method_10_code
def yX1_read : MethodName := ⟨RX1, "read", "()I"⟩
def dkwX1_read_1 : List UInt8 := [172]
abbrev dktX1_read_1 : List UInt8 := dkwX1_read_1 ++ []
def dkwX1_read_0 : List UInt8 := [42, 180, 0, 29, 154, 0, 11, 42, 42, 182, 0, 74, 181, 0, 77, 42, 4, 181, 0, 29, 42, 180, 0, 77]
abbrev dktX1_read_0 : List UInt8 := dkwX1_read_0 ++ dktX1_read_1
theorem dksX1_read_0 : cX1_read.data.toList.drop 0 = dktX1_read_0 := by decide +kernel
theorem dksX1_read_1 : cX1_read.data.toList.drop 24 = dktX1_read_1 := dk_seg dksX1_read_0 24 rfl rfl
theorem dX1_read_0 : decode cX1_read 0 = .ok (.aload_n 0, 1) := dk_42 (dk_at dksX1_read_0 0 rfl rfl)
theorem dX1_read_1 : decode cX1_read 1 = .ok (.getfield 29, 3) := dk_180 0 29 (dk_at dksX1_read_0 1 rfl rfl)
theorem dX1_read_4 : decode cX1_read 4 = .ok (.ifCond .ne 11, 3) := dk_154 0 11 (dk_at dksX1_read_0 4 rfl rfl)
theorem dX1_read_7 : decode cX1_read 7 = .ok (.aload_n 0, 1) := dk_42 (dk_at dksX1_read_0 7 rfl rfl)
theorem dX1_read_8 : decode cX1_read 8 = .ok (.aload_n 0, 1) := dk_42 (dk_at dksX1_read_0 8 rfl rfl)
theorem dX1_read_9 : decode cX1_read 9 = .ok (.invokevirtual 74, 3) := dk_182 0 74 (dk_at dksX1_read_0 9 rfl rfl)
theorem dX1_read_12 : decode cX1_read 12 = .ok (.putfield 77, 3) := dk_181 0 77 (dk_at dksX1_read_0 12 rfl rfl)
theorem dX1_read_15 : decode cX1_read 15 = .ok (.aload_n 0, 1) := dk_42 (dk_at dksX1_read_0 15 rfl rfl)
theorem dX1_read_16 : decode cX1_read 16 = .ok (.iconst 1, 1) := dk_4 (dk_at dksX1_read_0 16 rfl rfl)
theorem dX1_read_17 : decode cX1_read 17 = .ok (.putfield 29, 3) := dk_181 0 29 (dk_at dksX1_read_0 17 rfl rfl)
theorem dX1_read_20 : decode cX1_read 20 = .ok (.aload_n 0, 1) := dk_42 (dk_at dksX1_read_0 20 rfl rfl)
theorem dX1_read_21 : decode cX1_read 21 = .ok (.getfield 77, 3) := dk_180 0 77 (dk_at dksX1_read_0 21 rfl rfl)
theorem dX1_read_24 : decode cX1_read 24 = .ok (.ireturn, 1) := dk_172 (dk_at dksX1_read_1 0 rfl rfl)
abbrev cX1_reads : ByteArray := prog_9_method_9_code
def yX1_reads : MethodName := ⟨RX1, "reads", "()I"⟩
def dkwX1_reads_2 : List UInt8 := [2, 172, 76, 42, 180, 0, 12, 182, 0, 59, 43, 180, 0, 71, 172]
abbrev dktX1_reads_2 : List UInt8 := dkwX1_reads_2 ++ []
def dkwX1_reads_1 : List UInt8 := [180, 0, 33, 42, 180, 0, 26, 162, 0, 17, 42, 18, 65, 182, 0, 67, 87, 42, 182, 0, 62, 167, 255, 234]
abbrev dktX1_reads_1 : List UInt8 := dkwX1_reads_1 ++ dktX1_reads_2
def dkwX1_reads_0 : List UInt8 := [42, 3, 181, 0, 33, 42, 180, 0, 12, 182, 0, 59, 42, 180, 0, 26, 158, 0, 7, 42, 182, 0, 62, 42]
abbrev dktX1_reads_0 : List UInt8 := dkwX1_reads_0 ++ dktX1_reads_1
theorem dksX1_reads_0 : cX1_reads.data.toList.drop 0 = dktX1_reads_0 := by decide +kernel
theorem dksX1_reads_1 : cX1_reads.data.toList.drop 24 = dktX1_reads_1 := dk_seg dksX1_reads_0 24 rfl rfl
theorem dksX1_reads_2 : cX1_reads.data.toList.drop 48 = dktX1_reads_2 := dk_seg dksX1_reads_1 24 rfl rfl
theorem dX1_reads_0 : decode cX1_reads 0 = .ok (.aload_n 0, 1) := dk_42 (dk_at dksX1_reads_0 0 rfl rfl)
theorem dX1_reads_1 : decode cX1_reads 1 = .ok (.iconst 0, 1) := dk_3 (dk_at dksX1_reads_0 1 rfl rfl)
theorem dX1_reads_2 : decode cX1_reads 2 = .ok (.putfield 33, 3) := dk_181 0 33 (dk_at dksX1_reads_0 2 rfl rfl)
theorem dX1_reads_5 : decode cX1_reads 5 = .ok (.aload_n 0, 1) := dk_42 (dk_at dksX1_reads_0 5 rfl rfl)
theorem dX1_reads_6 : decode cX1_reads 6 = .ok (.getfield 12, 3) := dk_180 0 12 (dk_at dksX1_reads_0 6 rfl rfl)
theorem dX1_reads_9 : decode cX1_reads 9 = .ok (.invokevirtual 59, 3) := dk_182 0 59 (dk_at dksX1_reads_0 9 rfl rfl)
theorem dX1_reads_12 : decode cX1_reads 12 = .ok (.aload_n 0, 1) := dk_42 (dk_at dksX1_reads_0 12 rfl rfl)
theorem dX1_reads_13 : decode cX1_reads 13 = .ok (.getfield 26, 3) := dk_180 0 26 (dk_at dksX1_reads_0 13 rfl rfl)
theorem dX1_reads_16 : decode cX1_reads 16 = .ok (.ifCond .le 7, 3) := dk_158 0 7 (dk_at dksX1_reads_0 16 rfl rfl)
theorem dX1_reads_19 : decode cX1_reads 19 = .ok (.aload_n 0, 1) := dk_42 (dk_at dksX1_reads_0 19 rfl rfl)
theorem dX1_reads_20 : decode cX1_reads 20 = .ok (.invokevirtual 62, 3) := dk_182 0 62 (dk_at dksX1_reads_0 20 rfl rfl)
theorem dX1_reads_23 : decode cX1_reads 23 = .ok (.aload_n 0, 1) := dk_42 (dk_at dksX1_reads_0 23 rfl rfl)
theorem dX1_reads_24 : decode cX1_reads 24 = .ok (.getfield 33, 3) := dk_180 0 33 (dk_at dksX1_reads_1 0 rfl rfl)
theorem dX1_reads_27 : decode cX1_reads 27 = .ok (.aload_n 0, 1) := dk_42 (dk_at dksX1_reads_1 3 rfl rfl)
theorem dX1_reads_28 : decode cX1_reads 28 = .ok (.getfield 26, 3) := dk_180 0 26 (dk_at dksX1_reads_1 4 rfl rfl)
theorem dX1_reads_31 : decode cX1_reads 31 = .ok (.if_icmp .ge 17, 3) := dk_162 0 17 (dk_at dksX1_reads_1 7 rfl rfl)
theorem dX1_reads_34 : decode cX1_reads 34 = .ok (.aload_n 0, 1) := dk_42 (dk_at dksX1_reads_1 10 rfl rfl)
theorem dX1_reads_35 : decode cX1_reads 35 = .ok (.ldc 65, 2) := dk_18 65 (dk_at dksX1_reads_1 11 rfl rfl)
theorem dX1_reads_37 : decode cX1_reads 37 = .ok (.invokevirtual 67, 3) := dk_182 0 67 (dk_at dksX1_reads_1 13 rfl rfl)
theorem dX1_reads_40 : decode cX1_reads 40 = .ok (.pop, 1) := dk_87 (dk_at dksX1_reads_1 16 rfl rfl)
theorem dX1_reads_41 : decode cX1_reads 41 = .ok (.aload_n 0, 1) := dk_42 (dk_at dksX1_reads_1 17 rfl rfl)
theorem dX1_reads_42 : decode cX1_reads 42 = .ok (.invokevirtual 62, 3) := dk_182 0 62 (dk_at dksX1_reads_1 18 rfl rfl)
theorem dX1_reads_45 : decode cX1_reads 45 = .ok (.goto (-22), 3) := dk_167 255 234 (dk_at dksX1_reads_1 21 rfl rfl)
theorem dX1_reads_48 : decode cX1_reads 48 = .ok (.iconst (-1), 1) := dk_2 (dk_at dksX1_reads_2 0 rfl rfl)
theorem dX1_reads_49 : decode cX1_reads 49 = .ok (.ireturn, 1) := dk_172 (dk_at dksX1_reads_2 1 rfl rfl)
theorem dX1_reads_50 : decode cX1_reads 50 = .ok (.astore_n 1, 1) := dk_76 (dk_at dksX1_reads_2 2 rfl rfl)
theorem dX1_reads_51 : decode cX1_reads 51 = .ok (.aload_n 0, 1) := dk_42 (dk_at dksX1_reads_2 3 rfl rfl)
theorem dX1_reads_52 : decode cX1_reads 52 = .ok (.getfield 12, 3) := dk_180 0 12 (dk_at dksX1_reads_2 4 rfl rfl)
theorem dX1_reads_55 : decode cX1_reads 55 = .ok (.invokevirtual 59, 3) := dk_182 0 59 (dk_at dksX1_reads_2 7 rfl rfl)
theorem dX1_reads_58 : decode cX1_reads 58 = .ok (.aload_n 1, 1) := dk_43 (dk_at dksX1_reads_2 10 rfl rfl)
theorem dX1_reads_59 : decode cX1_reads 59 = .ok (.getfield 71, 3) := dk_180 0 71 (dk_at dksX1_reads_2 11 rfl rfl)
theorem dX1_reads_62 : decode cX1_reads 62 = .ok (.ireturn, 1) := dk_172 (dk_at dksX1_reads_2 14 rfl rfl)
abbrev cX1_next : ByteArray := prog_9_method_8_code
def yX1_next : MethodName := ⟨RX1, "next", "()V"⟩
def dkwX1_next_1 : List UInt8 := [183, 0, 44, 191, 42, 180, 0, 12, 42, 182, 0, 51, 182, 0, 55, 87, 177]
abbrev dktX1_next_1 : List UInt8 := dkwX1_next_1 ++ []
def dkwX1_next_0 : List UInt8 := [42, 180, 0, 12, 182, 0, 47, 42, 180, 0, 22, 160, 0, 15, 187, 0, 42, 89, 42, 180, 0, 33]
abbrev dktX1_next_0 : List UInt8 := dkwX1_next_0 ++ dktX1_next_1
theorem dksX1_next_0 : cX1_next.data.toList.drop 0 = dktX1_next_0 := by decide +kernel
theorem dksX1_next_1 : cX1_next.data.toList.drop 22 = dktX1_next_1 := dk_seg dksX1_next_0 22 rfl rfl
theorem dX1_next_0 : decode cX1_next 0 = .ok (.aload_n 0, 1) := dk_42 (dk_at dksX1_next_0 0 rfl rfl)
theorem dX1_next_1 : decode cX1_next 1 = .ok (.getfield 12, 3) := dk_180 0 12 (dk_at dksX1_next_0 1 rfl rfl)
theorem dX1_next_4 : decode cX1_next 4 = .ok (.invokevirtual 47, 3) := dk_182 0 47 (dk_at dksX1_next_0 4 rfl rfl)
theorem dX1_next_7 : decode cX1_next 7 = .ok (.aload_n 0, 1) := dk_42 (dk_at dksX1_next_0 7 rfl rfl)
theorem dX1_next_8 : decode cX1_next 8 = .ok (.getfield 22, 3) := dk_180 0 22 (dk_at dksX1_next_0 8 rfl rfl)
theorem dX1_next_11 : decode cX1_next 11 = .ok (.if_icmp .ne 15, 3) := dk_160 0 15 (dk_at dksX1_next_0 11 rfl rfl)
theorem dX1_next_14 : decode cX1_next 14 = .ok (.new 42, 3) := dk_187 0 42 (dk_at dksX1_next_0 14 rfl rfl)
theorem dX1_next_17 : decode cX1_next 17 = .ok (.dup, 1) := dk_89 (dk_at dksX1_next_0 17 rfl rfl)
theorem dX1_next_18 : decode cX1_next 18 = .ok (.aload_n 0, 1) := dk_42 (dk_at dksX1_next_0 18 rfl rfl)
theorem dX1_next_19 : decode cX1_next 19 = .ok (.getfield 33, 3) := dk_180 0 33 (dk_at dksX1_next_0 19 rfl rfl)
theorem dX1_next_22 : decode cX1_next 22 = .ok (.invokespecial 44, 3) := dk_183 0 44 (dk_at dksX1_next_1 0 rfl rfl)
theorem dX1_next_25 : decode cX1_next 25 = .ok (.athrow, 1) := dk_191 (dk_at dksX1_next_1 3 rfl rfl)
theorem dX1_next_26 : decode cX1_next 26 = .ok (.aload_n 0, 1) := dk_42 (dk_at dksX1_next_1 4 rfl rfl)
theorem dX1_next_27 : decode cX1_next 27 = .ok (.getfield 12, 3) := dk_180 0 12 (dk_at dksX1_next_1 5 rfl rfl)
theorem dX1_next_30 : decode cX1_next 30 = .ok (.aload_n 0, 1) := dk_42 (dk_at dksX1_next_1 8 rfl rfl)
theorem dX1_next_31 : decode cX1_next 31 = .ok (.invokevirtual 51, 3) := dk_182 0 51 (dk_at dksX1_next_1 9 rfl rfl)
theorem dX1_next_34 : decode cX1_next 34 = .ok (.invokevirtual 55, 3) := dk_182 0 55 (dk_at dksX1_next_1 12 rfl rfl)
theorem dX1_next_37 : decode cX1_next 37 = .ok (.pop, 1) := dk_87 (dk_at dksX1_next_1 15 rfl rfl)
theorem dX1_next_38 : decode cX1_next 38 = .ok (.return_, 1) := dk_177 (dk_at dksX1_next_1 16 rfl rfl)
abbrev cX1_passes : ByteArray := prog_9_method_7_code
def yX1_passes : MethodName := ⟨RX1, "passes", "(Ljava/lang/String;)I"⟩
def dkwX1_passes_2 : List UInt8 := [183, 0, 44, 191, 42, 89, 180, 0, 33, 4, 96, 181, 0, 33, 28, 172]
abbrev dktX1_passes_2 : List UInt8 := dkwX1_passes_2 ++ []
def dkwX1_passes_1 : List UInt8 := [51, 17, 0, 255, 126, 182, 0, 36, 61, 28, 2, 160, 0, 15, 187, 0, 42, 89, 42, 180, 0, 33]
abbrev dktX1_passes_1 : List UInt8 := dkwX1_passes_1 ++ dktX1_passes_2
def dkwX1_passes_0 : List UInt8 := [42, 180, 0, 33, 42, 180, 0, 26, 160, 0, 7, 2, 167, 0, 20, 43, 42, 180, 0, 18, 42, 180, 0, 33]
abbrev dktX1_passes_0 : List UInt8 := dkwX1_passes_0 ++ dktX1_passes_1
theorem dksX1_passes_0 : cX1_passes.data.toList.drop 0 = dktX1_passes_0 := by decide +kernel
theorem dksX1_passes_1 : cX1_passes.data.toList.drop 24 = dktX1_passes_1 := dk_seg dksX1_passes_0 24 rfl rfl
theorem dksX1_passes_2 : cX1_passes.data.toList.drop 46 = dktX1_passes_2 := dk_seg dksX1_passes_1 22 rfl rfl
theorem dX1_passes_0 : decode cX1_passes 0 = .ok (.aload_n 0, 1) := dk_42 (dk_at dksX1_passes_0 0 rfl rfl)
theorem dX1_passes_1 : decode cX1_passes 1 = .ok (.getfield 33, 3) := dk_180 0 33 (dk_at dksX1_passes_0 1 rfl rfl)
theorem dX1_passes_4 : decode cX1_passes 4 = .ok (.aload_n 0, 1) := dk_42 (dk_at dksX1_passes_0 4 rfl rfl)
theorem dX1_passes_5 : decode cX1_passes 5 = .ok (.getfield 26, 3) := dk_180 0 26 (dk_at dksX1_passes_0 5 rfl rfl)
theorem dX1_passes_8 : decode cX1_passes 8 = .ok (.if_icmp .ne 7, 3) := dk_160 0 7 (dk_at dksX1_passes_0 8 rfl rfl)
theorem dX1_passes_11 : decode cX1_passes 11 = .ok (.iconst (-1), 1) := dk_2 (dk_at dksX1_passes_0 11 rfl rfl)
theorem dX1_passes_12 : decode cX1_passes 12 = .ok (.goto 20, 3) := dk_167 0 20 (dk_at dksX1_passes_0 12 rfl rfl)
theorem dX1_passes_15 : decode cX1_passes 15 = .ok (.aload_n 1, 1) := dk_43 (dk_at dksX1_passes_0 15 rfl rfl)
theorem dX1_passes_16 : decode cX1_passes 16 = .ok (.aload_n 0, 1) := dk_42 (dk_at dksX1_passes_0 16 rfl rfl)
theorem dX1_passes_17 : decode cX1_passes 17 = .ok (.getfield 18, 3) := dk_180 0 18 (dk_at dksX1_passes_0 17 rfl rfl)
theorem dX1_passes_20 : decode cX1_passes 20 = .ok (.aload_n 0, 1) := dk_42 (dk_at dksX1_passes_0 20 rfl rfl)
theorem dX1_passes_21 : decode cX1_passes 21 = .ok (.getfield 33, 3) := dk_180 0 33 (dk_at dksX1_passes_0 21 rfl rfl)
theorem dX1_passes_24 : decode cX1_passes 24 = .ok (.baload, 1) := dk_51 (dk_at dksX1_passes_1 0 rfl rfl)
theorem dX1_passes_25 : decode cX1_passes 25 = .ok (.sipush 255, 3) := dk_17 0 255 (dk_at dksX1_passes_1 1 rfl rfl)
theorem dX1_passes_28 : decode cX1_passes 28 = .ok (.iand, 1) := dk_126 (dk_at dksX1_passes_1 4 rfl rfl)
theorem dX1_passes_29 : decode cX1_passes 29 = .ok (.invokevirtual 36, 3) := dk_182 0 36 (dk_at dksX1_passes_1 5 rfl rfl)
theorem dX1_passes_32 : decode cX1_passes 32 = .ok (.istore_n 2, 1) := dk_61 (dk_at dksX1_passes_1 8 rfl rfl)
theorem dX1_passes_33 : decode cX1_passes 33 = .ok (.iload_n 2, 1) := dk_28 (dk_at dksX1_passes_1 9 rfl rfl)
theorem dX1_passes_34 : decode cX1_passes 34 = .ok (.iconst (-1), 1) := dk_2 (dk_at dksX1_passes_1 10 rfl rfl)
theorem dX1_passes_35 : decode cX1_passes 35 = .ok (.if_icmp .ne 15, 3) := dk_160 0 15 (dk_at dksX1_passes_1 11 rfl rfl)
theorem dX1_passes_38 : decode cX1_passes 38 = .ok (.new 42, 3) := dk_187 0 42 (dk_at dksX1_passes_1 14 rfl rfl)
theorem dX1_passes_41 : decode cX1_passes 41 = .ok (.dup, 1) := dk_89 (dk_at dksX1_passes_1 17 rfl rfl)
theorem dX1_passes_42 : decode cX1_passes 42 = .ok (.aload_n 0, 1) := dk_42 (dk_at dksX1_passes_1 18 rfl rfl)
theorem dX1_passes_43 : decode cX1_passes 43 = .ok (.getfield 33, 3) := dk_180 0 33 (dk_at dksX1_passes_1 19 rfl rfl)
theorem dX1_passes_46 : decode cX1_passes 46 = .ok (.invokespecial 44, 3) := dk_183 0 44 (dk_at dksX1_passes_2 0 rfl rfl)
theorem dX1_passes_49 : decode cX1_passes 49 = .ok (.athrow, 1) := dk_191 (dk_at dksX1_passes_2 3 rfl rfl)
theorem dX1_passes_50 : decode cX1_passes 50 = .ok (.aload_n 0, 1) := dk_42 (dk_at dksX1_passes_2 4 rfl rfl)
theorem dX1_passes_51 : decode cX1_passes 51 = .ok (.dup, 1) := dk_89 (dk_at dksX1_passes_2 5 rfl rfl)
theorem dX1_passes_52 : decode cX1_passes 52 = .ok (.getfield 33, 3) := dk_180 0 33 (dk_at dksX1_passes_2 6 rfl rfl)
theorem dX1_passes_55 : decode cX1_passes 55 = .ok (.iconst 1, 1) := dk_4 (dk_at dksX1_passes_2 9 rfl rfl)
theorem dX1_passes_56 : decode cX1_passes 56 = .ok (.iadd, 1) := dk_96 (dk_at dksX1_passes_2 10 rfl rfl)
theorem dX1_passes_57 : decode cX1_passes 57 = .ok (.putfield 33, 3) := dk_181 0 33 (dk_at dksX1_passes_2 11 rfl rfl)
theorem dX1_passes_60 : decode cX1_passes 60 = .ok (.iload_n 2, 1) := dk_28 (dk_at dksX1_passes_2 14 rfl rfl)
theorem dX1_passes_61 : decode cX1_passes 61 = .ok (.ireturn, 1) := dk_172 (dk_at dksX1_passes_2 15 rfl rfl)
abbrev cX1_many : ByteArray := prog_9_method_11_code
def yX1_many : MethodName := ⟨RX1, "many", "()I"⟩
def dkwX1_many_0 : List UInt8 := [42, 182, 0, 80, 87, 42, 180, 0, 12, 182, 0, 47, 172]
abbrev dktX1_many_0 : List UInt8 := dkwX1_many_0 ++ []
theorem dksX1_many_0 : cX1_many.data.toList.drop 0 = dktX1_many_0 := by decide +kernel
theorem dX1_many_0 : decode cX1_many 0 = .ok (.aload_n 0, 1) := dk_42 (dk_at dksX1_many_0 0 rfl rfl)
theorem dX1_many_1 : decode cX1_many 1 = .ok (.invokevirtual 80, 3) := dk_182 0 80 (dk_at dksX1_many_0 1 rfl rfl)
theorem dX1_many_4 : decode cX1_many 4 = .ok (.pop, 1) := dk_87 (dk_at dksX1_many_0 4 rfl rfl)
theorem dX1_many_5 : decode cX1_many 5 = .ok (.aload_n 0, 1) := dk_42 (dk_at dksX1_many_0 5 rfl rfl)
theorem dX1_many_6 : decode cX1_many 6 = .ok (.getfield 12, 3) := dk_180 0 12 (dk_at dksX1_many_0 6 rfl rfl)
theorem dX1_many_9 : decode cX1_many 9 = .ok (.invokevirtual 47, 3) := dk_182 0 47 (dk_at dksX1_many_0 9 rfl rfl)
theorem dX1_many_12 : decode cX1_many 12 = .ok (.ireturn, 1) := dk_172 (dk_at dksX1_many_0 12 rfl rfl)
abbrev cX1_length : ByteArray := prog_9_method_6_code
def yX1_length : MethodName := ⟨RX1, "length", "()I"⟩
theorem dX1_length_0 : decode cX1_length 0 = .ok (.aload_n 0, 1) := by decide +kernel
theorem dX1_length_1 : decode cX1_length 1 = .ok (.getfield 26, 3) := by decide +kernel
theorem dX1_length_4 : decode cX1_length 4 = .ok (.ireturn, 1) := by decide +kernel
abbrev cX2_init : ByteArray := prog_11_method_1_code
def yX2_init : MethodName := ⟨RX2, "<init>", "()V"⟩
def dkwX2_init_0 : List UInt8 := [42, 16, 23, 16, 8, 183, 0, 3, 177]
abbrev dktX2_init_0 : List UInt8 := dkwX2_init_0 ++ []
theorem dksX2_init_0 : cX2_init.data.toList.drop 0 = dktX2_init_0 := by decide +kernel
theorem dX2_init_0 : decode cX2_init 0 = .ok (.aload_n 0, 1) := dk_42 (dk_at dksX2_init_0 0 rfl rfl)
theorem dX2_init_1 : decode cX2_init 1 = .ok (.bipush 23, 2) := dk_16 23 (dk_at dksX2_init_0 1 rfl rfl)
theorem dX2_init_3 : decode cX2_init 3 = .ok (.bipush 8, 2) := dk_16 8 (dk_at dksX2_init_0 3 rfl rfl)
theorem dX2_init_5 : decode cX2_init 5 = .ok (.invokespecial 3, 3) := dk_183 0 3 (dk_at dksX2_init_0 5 rfl rfl)
theorem dX2_init_8 : decode cX2_init 8 = .ok (.return_, 1) := dk_177 (dk_at dksX2_init_0 8 rfl rfl)
abbrev cX2_part : ByteArray := prog_11_method_3_code
def yX2_part : MethodName := ⟨RX2, "part", "()Ljava/lang/Object;"⟩
theorem dX2_part_0 : decode cX2_part 0 = .ok (.aload_n 0, 1) := by decide +kernel
theorem dX2_part_1 : decode cX2_part 1 = .ok (.invokevirtual 28, 3) := by decide +kernel
theorem dX2_part_4 : decode cX2_part 4 = .ok (.areturn, 1) := by decide +kernel
abbrev cX2_part_2 : ByteArray := prog_11_method_2_code
def yX2_part_2 : MethodName := ⟨RX2, "part", "()LPromiseTailor$Person;"⟩
def dkwX2_part_2_1 : List UInt8 := [183, 0, 25, 176]
abbrev dktX2_part_2_1 : List UInt8 := dkwX2_part_2_1 ++ []
def dkwX2_part_2_0 : List UInt8 := [178, 0, 9, 42, 18, 13, 182, 0, 15, 50, 76, 187, 0, 21, 89, 43, 42, 18, 23, 182, 0, 15]
abbrev dktX2_part_2_0 : List UInt8 := dkwX2_part_2_0 ++ dktX2_part_2_1
theorem dksX2_part_2_0 : cX2_part_2.data.toList.drop 0 = dktX2_part_2_0 := by decide +kernel
theorem dksX2_part_2_1 : cX2_part_2.data.toList.drop 22 = dktX2_part_2_1 := dk_seg dksX2_part_2_0 22 rfl rfl
theorem dX2_part_2_0 : decode cX2_part_2 0 = .ok (.getstatic 9, 3) := dk_178 0 9 (dk_at dksX2_part_2_0 0 rfl rfl)
theorem dX2_part_2_3 : decode cX2_part_2 3 = .ok (.aload_n 0, 1) := dk_42 (dk_at dksX2_part_2_0 3 rfl rfl)
theorem dX2_part_2_4 : decode cX2_part_2 4 = .ok (.ldc 13, 2) := dk_18 13 (dk_at dksX2_part_2_0 4 rfl rfl)
theorem dX2_part_2_6 : decode cX2_part_2 6 = .ok (.invokevirtual 15, 3) := dk_182 0 15 (dk_at dksX2_part_2_0 6 rfl rfl)
theorem dX2_part_2_9 : decode cX2_part_2 9 = .ok (.aaload, 1) := dk_50 (dk_at dksX2_part_2_0 9 rfl rfl)
theorem dX2_part_2_10 : decode cX2_part_2 10 = .ok (.astore_n 1, 1) := dk_76 (dk_at dksX2_part_2_0 10 rfl rfl)
theorem dX2_part_2_11 : decode cX2_part_2 11 = .ok (.new 21, 3) := dk_187 0 21 (dk_at dksX2_part_2_0 11 rfl rfl)
theorem dX2_part_2_14 : decode cX2_part_2 14 = .ok (.dup, 1) := dk_89 (dk_at dksX2_part_2_0 14 rfl rfl)
theorem dX2_part_2_15 : decode cX2_part_2 15 = .ok (.aload_n 1, 1) := dk_43 (dk_at dksX2_part_2_0 15 rfl rfl)
theorem dX2_part_2_16 : decode cX2_part_2 16 = .ok (.aload_n 0, 1) := dk_42 (dk_at dksX2_part_2_0 16 rfl rfl)
theorem dX2_part_2_17 : decode cX2_part_2 17 = .ok (.ldc 23, 2) := dk_18 23 (dk_at dksX2_part_2_0 17 rfl rfl)
theorem dX2_part_2_19 : decode cX2_part_2 19 = .ok (.invokevirtual 15, 3) := dk_182 0 15 (dk_at dksX2_part_2_0 19 rfl rfl)
theorem dX2_part_2_22 : decode cX2_part_2 22 = .ok (.invokespecial 25, 3) := dk_183 0 25 (dk_at dksX2_part_2_1 0 rfl rfl)
theorem dX2_part_2_25 : decode cX2_part_2 25 = .ok (.areturn, 1) := dk_176 (dk_at dksX2_part_2_1 3 rfl rfl)
abbrev cX3_init : ByteArray := prog_3_method_1_code
def yX3_init : MethodName := ⟨RX3, "<init>", "()V"⟩
def dkwX3_init_0 : List UInt8 := [42, 16, 49, 16, 10, 183, 0, 3, 177]
abbrev dktX3_init_0 : List UInt8 := dkwX3_init_0 ++ []
theorem dksX3_init_0 : cX3_init.data.toList.drop 0 = dktX3_init_0 := by decide +kernel
theorem dX3_init_0 : decode cX3_init 0 = .ok (.aload_n 0, 1) := dk_42 (dk_at dksX3_init_0 0 rfl rfl)
theorem dX3_init_1 : decode cX3_init 1 = .ok (.bipush 49, 2) := dk_16 49 (dk_at dksX3_init_0 1 rfl rfl)
theorem dX3_init_3 : decode cX3_init 3 = .ok (.bipush 10, 2) := dk_16 10 (dk_at dksX3_init_0 3 rfl rfl)
theorem dX3_init_5 : decode cX3_init 5 = .ok (.invokespecial 3, 3) := dk_183 0 3 (dk_at dksX3_init_0 5 rfl rfl)
theorem dX3_init_8 : decode cX3_init 8 = .ok (.return_, 1) := dk_177 (dk_at dksX3_init_0 8 rfl rfl)
abbrev cX3_part : ByteArray := prog_3_method_3_code
def yX3_part : MethodName := ⟨RX3, "part", "()Ljava/lang/Object;"⟩
theorem dX3_part_0 : decode cX3_part 0 = .ok (.aload_n 0, 1) := by decide +kernel
theorem dX3_part_1 : decode cX3_part 1 = .ok (.invokevirtual 26, 3) := by decide +kernel
theorem dX3_part_4 : decode cX3_part 4 = .ok (.areturn, 1) := by decide +kernel
abbrev cX3_part_2 : ByteArray := prog_3_method_2_code
def yX3_part_2 : MethodName := ⟨RX3, "part", "()LPromiseTailor$Promise;"⟩
def dkwX3_part_2_1 : List UInt8 := [187, 0, 21, 89, 27, 28, 29, 42, 18, 19, 182, 0, 11, 183, 0, 23, 176]
abbrev dktX3_part_2_1 : List UInt8 := dkwX3_part_2_1 ++ []
def dkwX3_part_2_0 : List UInt8 := [42, 18, 9, 182, 0, 11, 60, 4, 42, 18, 17, 182, 0, 11, 96, 61, 42, 18, 19, 182, 0, 11, 62]
abbrev dktX3_part_2_0 : List UInt8 := dkwX3_part_2_0 ++ dktX3_part_2_1
theorem dksX3_part_2_0 : cX3_part_2.data.toList.drop 0 = dktX3_part_2_0 := by decide +kernel
theorem dksX3_part_2_1 : cX3_part_2.data.toList.drop 23 = dktX3_part_2_1 := dk_seg dksX3_part_2_0 23 rfl rfl
theorem dX3_part_2_0 : decode cX3_part_2 0 = .ok (.aload_n 0, 1) := dk_42 (dk_at dksX3_part_2_0 0 rfl rfl)
theorem dX3_part_2_1 : decode cX3_part_2 1 = .ok (.ldc 9, 2) := dk_18 9 (dk_at dksX3_part_2_0 1 rfl rfl)
theorem dX3_part_2_3 : decode cX3_part_2 3 = .ok (.invokevirtual 11, 3) := dk_182 0 11 (dk_at dksX3_part_2_0 3 rfl rfl)
theorem dX3_part_2_6 : decode cX3_part_2 6 = .ok (.istore_n 1, 1) := dk_60 (dk_at dksX3_part_2_0 6 rfl rfl)
theorem dX3_part_2_7 : decode cX3_part_2 7 = .ok (.iconst 1, 1) := dk_4 (dk_at dksX3_part_2_0 7 rfl rfl)
theorem dX3_part_2_8 : decode cX3_part_2 8 = .ok (.aload_n 0, 1) := dk_42 (dk_at dksX3_part_2_0 8 rfl rfl)
theorem dX3_part_2_9 : decode cX3_part_2 9 = .ok (.ldc 17, 2) := dk_18 17 (dk_at dksX3_part_2_0 9 rfl rfl)
theorem dX3_part_2_11 : decode cX3_part_2 11 = .ok (.invokevirtual 11, 3) := dk_182 0 11 (dk_at dksX3_part_2_0 11 rfl rfl)
theorem dX3_part_2_14 : decode cX3_part_2 14 = .ok (.iadd, 1) := dk_96 (dk_at dksX3_part_2_0 14 rfl rfl)
theorem dX3_part_2_15 : decode cX3_part_2 15 = .ok (.istore_n 2, 1) := dk_61 (dk_at dksX3_part_2_0 15 rfl rfl)
theorem dX3_part_2_16 : decode cX3_part_2 16 = .ok (.aload_n 0, 1) := dk_42 (dk_at dksX3_part_2_0 16 rfl rfl)
theorem dX3_part_2_17 : decode cX3_part_2 17 = .ok (.ldc 19, 2) := dk_18 19 (dk_at dksX3_part_2_0 17 rfl rfl)
theorem dX3_part_2_19 : decode cX3_part_2 19 = .ok (.invokevirtual 11, 3) := dk_182 0 11 (dk_at dksX3_part_2_0 19 rfl rfl)
theorem dX3_part_2_22 : decode cX3_part_2 22 = .ok (.istore_n 3, 1) := dk_62 (dk_at dksX3_part_2_0 22 rfl rfl)
theorem dX3_part_2_23 : decode cX3_part_2 23 = .ok (.new 21, 3) := dk_187 0 21 (dk_at dksX3_part_2_1 0 rfl rfl)
theorem dX3_part_2_26 : decode cX3_part_2 26 = .ok (.dup, 1) := dk_89 (dk_at dksX3_part_2_1 3 rfl rfl)
theorem dX3_part_2_27 : decode cX3_part_2 27 = .ok (.iload_n 1, 1) := dk_27 (dk_at dksX3_part_2_1 4 rfl rfl)
theorem dX3_part_2_28 : decode cX3_part_2 28 = .ok (.iload_n 2, 1) := dk_28 (dk_at dksX3_part_2_1 5 rfl rfl)
theorem dX3_part_2_29 : decode cX3_part_2 29 = .ok (.iload_n 3, 1) := dk_29 (dk_at dksX3_part_2_1 6 rfl rfl)
theorem dX3_part_2_30 : decode cX3_part_2 30 = .ok (.aload_n 0, 1) := dk_42 (dk_at dksX3_part_2_1 7 rfl rfl)
theorem dX3_part_2_31 : decode cX3_part_2 31 = .ok (.ldc 19, 2) := dk_18 19 (dk_at dksX3_part_2_1 8 rfl rfl)
theorem dX3_part_2_33 : decode cX3_part_2 33 = .ok (.invokevirtual 11, 3) := dk_182 0 11 (dk_at dksX3_part_2_1 10 rfl rfl)
theorem dX3_part_2_36 : decode cX3_part_2 36 = .ok (.invokespecial 23, 3) := dk_183 0 23 (dk_at dksX3_part_2_1 13 rfl rfl)
theorem dX3_part_2_39 : decode cX3_part_2 39 = .ok (.areturn, 1) := dk_176 (dk_at dksX3_part_2_1 16 rfl rfl)
abbrev cX4_init : ByteArray := prog_6_method_1_code
def yX4_init : MethodName := ⟨RX4, "<init>", "()V"⟩
theorem dX4_init_0 : decode cX4_init 0 = .ok (.aload_n 0, 1) := by decide +kernel
theorem dX4_init_1 : decode cX4_init 1 = .ok (.invokespecial 1, 3) := by decide +kernel
theorem dX4_init_4 : decode cX4_init 4 = .ok (.return_, 1) := by decide +kernel
abbrev cX4_size : ByteArray := prog_6_method_3_code
def yX4_size : MethodName := ⟨RX4, "size", "()I"⟩
def dkwX4_size_3 : List UInt8 := [192, 0, 21, 190, 172]
abbrev dktX4_size_3 : List UInt8 := dkwX4_size_3 ++ []
def dkwX4_size_2 : List UInt8 := [42, 180, 0, 7, 192, 0, 13, 190, 172, 42, 180, 0, 7, 192, 0, 15, 190, 172, 42, 180, 0, 7]
abbrev dktX4_size_2 : List UInt8 := dkwX4_size_2 ++ dktX4_size_3
def dkwX4_size_1 : List UInt8 := [171, 0, 0, 0, 0, 0, 0, 46, 0, 0, 0, 2, 0, 0, 0, 0, 0, 0, 0, 28, 0, 0, 0, 1, 0, 0, 0, 37]
abbrev dktX4_size_1 : List UInt8 := dkwX4_size_1 ++ dktX4_size_2
def dkwX4_size_0 : List UInt8 := [42, 182, 0, 17]
abbrev dktX4_size_0 : List UInt8 := dkwX4_size_0 ++ dktX4_size_1
theorem dksX4_size_0 : cX4_size.data.toList.drop 0 = dktX4_size_0 := by decide +kernel
theorem dksX4_size_1 : cX4_size.data.toList.drop 4 = dktX4_size_1 := dk_seg dksX4_size_0 4 rfl rfl
theorem dksX4_size_2 : cX4_size.data.toList.drop 32 = dktX4_size_2 := dk_seg dksX4_size_1 28 rfl rfl
theorem dksX4_size_3 : cX4_size.data.toList.drop 54 = dktX4_size_3 := dk_seg dksX4_size_2 22 rfl rfl
theorem dX4_size_0 : decode cX4_size 0 = .ok (.aload_n 0, 1) := dk_42 (dk_at dksX4_size_0 0 rfl rfl)
theorem dX4_size_1 : decode cX4_size 1 = .ok (.invokevirtual 17, 3) := dk_182 0 17 (dk_at dksX4_size_0 1 rfl rfl)
theorem dX4_size_4 : decode cX4_size 4 = .ok (.lookupswitch 46 #[(0, 28), (1, 37)], 28) := by decide +kernel
theorem dX4_size_32 : decode cX4_size 32 = .ok (.aload_n 0, 1) := dk_42 (dk_at dksX4_size_2 0 rfl rfl)
theorem dX4_size_33 : decode cX4_size 33 = .ok (.getfield 7, 3) := dk_180 0 7 (dk_at dksX4_size_2 1 rfl rfl)
theorem dX4_size_36 : decode cX4_size 36 = .ok (.checkcast 13, 3) := dk_192 0 13 (dk_at dksX4_size_2 4 rfl rfl)
theorem dX4_size_39 : decode cX4_size 39 = .ok (.arraylength, 1) := dk_190 (dk_at dksX4_size_2 7 rfl rfl)
theorem dX4_size_40 : decode cX4_size 40 = .ok (.ireturn, 1) := dk_172 (dk_at dksX4_size_2 8 rfl rfl)
theorem dX4_size_41 : decode cX4_size 41 = .ok (.aload_n 0, 1) := dk_42 (dk_at dksX4_size_2 9 rfl rfl)
theorem dX4_size_42 : decode cX4_size 42 = .ok (.getfield 7, 3) := dk_180 0 7 (dk_at dksX4_size_2 10 rfl rfl)
theorem dX4_size_45 : decode cX4_size 45 = .ok (.checkcast 15, 3) := dk_192 0 15 (dk_at dksX4_size_2 13 rfl rfl)
theorem dX4_size_48 : decode cX4_size 48 = .ok (.arraylength, 1) := dk_190 (dk_at dksX4_size_2 16 rfl rfl)
theorem dX4_size_49 : decode cX4_size 49 = .ok (.ireturn, 1) := dk_172 (dk_at dksX4_size_2 17 rfl rfl)
theorem dX4_size_50 : decode cX4_size 50 = .ok (.aload_n 0, 1) := dk_42 (dk_at dksX4_size_2 18 rfl rfl)
theorem dX4_size_51 : decode cX4_size 51 = .ok (.getfield 7, 3) := dk_180 0 7 (dk_at dksX4_size_2 19 rfl rfl)
theorem dX4_size_54 : decode cX4_size 54 = .ok (.checkcast 21, 3) := dk_192 0 21 (dk_at dksX4_size_3 0 rfl rfl)
theorem dX4_size_57 : decode cX4_size 57 = .ok (.arraylength, 1) := dk_190 (dk_at dksX4_size_3 3 rfl rfl)
theorem dX4_size_58 : decode cX4_size 58 = .ok (.ireturn, 1) := dk_172 (dk_at dksX4_size_3 4 rfl rfl)
abbrev cX4_type : ByteArray := prog_6_method_2_code
def yX4_type : MethodName := ⟨RX4, "type", "()I"⟩
def dkwX4_type_1 : List UInt8 := [4, 167, 0, 4, 5, 172]
abbrev dktX4_type_1 : List UInt8 := dkwX4_type_1 ++ []
def dkwX4_type_0 : List UInt8 := [42, 180, 0, 7, 193, 0, 13, 153, 0, 7, 3, 167, 0, 18, 42, 180, 0, 7, 193, 0, 15, 153, 0, 7]
abbrev dktX4_type_0 : List UInt8 := dkwX4_type_0 ++ dktX4_type_1
theorem dksX4_type_0 : cX4_type.data.toList.drop 0 = dktX4_type_0 := by decide +kernel
theorem dksX4_type_1 : cX4_type.data.toList.drop 24 = dktX4_type_1 := dk_seg dksX4_type_0 24 rfl rfl
theorem dX4_type_0 : decode cX4_type 0 = .ok (.aload_n 0, 1) := dk_42 (dk_at dksX4_type_0 0 rfl rfl)
theorem dX4_type_1 : decode cX4_type 1 = .ok (.getfield 7, 3) := dk_180 0 7 (dk_at dksX4_type_0 1 rfl rfl)
theorem dX4_type_4 : decode cX4_type 4 = .ok (.instanceof 13, 3) := dk_193 0 13 (dk_at dksX4_type_0 4 rfl rfl)
theorem dX4_type_7 : decode cX4_type 7 = .ok (.ifCond .eq 7, 3) := dk_153 0 7 (dk_at dksX4_type_0 7 rfl rfl)
theorem dX4_type_10 : decode cX4_type 10 = .ok (.iconst 0, 1) := dk_3 (dk_at dksX4_type_0 10 rfl rfl)
theorem dX4_type_11 : decode cX4_type 11 = .ok (.goto 18, 3) := dk_167 0 18 (dk_at dksX4_type_0 11 rfl rfl)
theorem dX4_type_14 : decode cX4_type 14 = .ok (.aload_n 0, 1) := dk_42 (dk_at dksX4_type_0 14 rfl rfl)
theorem dX4_type_15 : decode cX4_type 15 = .ok (.getfield 7, 3) := dk_180 0 7 (dk_at dksX4_type_0 15 rfl rfl)
theorem dX4_type_18 : decode cX4_type 18 = .ok (.instanceof 15, 3) := dk_193 0 15 (dk_at dksX4_type_0 18 rfl rfl)
theorem dX4_type_21 : decode cX4_type 21 = .ok (.ifCond .eq 7, 3) := dk_153 0 7 (dk_at dksX4_type_0 21 rfl rfl)
theorem dX4_type_24 : decode cX4_type 24 = .ok (.iconst 1, 1) := dk_4 (dk_at dksX4_type_1 0 rfl rfl)
theorem dX4_type_25 : decode cX4_type 25 = .ok (.goto 4, 3) := dk_167 0 4 (dk_at dksX4_type_1 1 rfl rfl)
theorem dX4_type_28 : decode cX4_type 28 = .ok (.iconst 2, 1) := dk_5 (dk_at dksX4_type_1 4 rfl rfl)
theorem dX4_type_29 : decode cX4_type 29 = .ok (.ireturn, 1) := dk_172 (dk_at dksX4_type_1 5 rfl rfl)
abbrev cX4_item : ByteArray := prog_6_method_4_code
def yX4_item : MethodName := ⟨RX4, "item", "(II)I"⟩
def dkwX4_item_3 : List UInt8 := [192, 0, 21, 28, 46, 172]
abbrev dktX4_item_3 : List UInt8 := dkwX4_item_3 ++ []
def dkwX4_item_2 : List UInt8 := [42, 180, 0, 7, 192, 0, 13, 28, 51, 172, 42, 180, 0, 7, 192, 0, 15, 28, 53, 172, 42, 180, 0, 7]
abbrev dktX4_item_2 : List UInt8 := dkwX4_item_2 ++ dktX4_item_3
def dkwX4_item_1 : List UInt8 := [171, 0, 0, 0, 0, 0, 47, 0, 0, 0, 2, 0, 0, 0, 0, 0, 0, 0, 27, 0, 0, 0, 1, 0, 0, 0, 37]
abbrev dktX4_item_1 : List UInt8 := dkwX4_item_1 ++ dktX4_item_2
def dkwX4_item_0 : List UInt8 := [27]
abbrev dktX4_item_0 : List UInt8 := dkwX4_item_0 ++ dktX4_item_1
theorem dksX4_item_0 : cX4_item.data.toList.drop 0 = dktX4_item_0 := by decide +kernel
theorem dksX4_item_1 : cX4_item.data.toList.drop 1 = dktX4_item_1 := dk_seg dksX4_item_0 1 rfl rfl
theorem dksX4_item_2 : cX4_item.data.toList.drop 28 = dktX4_item_2 := dk_seg dksX4_item_1 27 rfl rfl
theorem dksX4_item_3 : cX4_item.data.toList.drop 52 = dktX4_item_3 := dk_seg dksX4_item_2 24 rfl rfl
theorem dX4_item_0 : decode cX4_item 0 = .ok (.iload_n 1, 1) := dk_27 (dk_at dksX4_item_0 0 rfl rfl)
theorem dX4_item_1 : decode cX4_item 1 = .ok (.lookupswitch 47 #[(0, 27), (1, 37)], 27) := by decide +kernel
theorem dX4_item_28 : decode cX4_item 28 = .ok (.aload_n 0, 1) := dk_42 (dk_at dksX4_item_2 0 rfl rfl)
theorem dX4_item_29 : decode cX4_item 29 = .ok (.getfield 7, 3) := dk_180 0 7 (dk_at dksX4_item_2 1 rfl rfl)
theorem dX4_item_32 : decode cX4_item 32 = .ok (.checkcast 13, 3) := dk_192 0 13 (dk_at dksX4_item_2 4 rfl rfl)
theorem dX4_item_35 : decode cX4_item 35 = .ok (.iload_n 2, 1) := dk_28 (dk_at dksX4_item_2 7 rfl rfl)
theorem dX4_item_36 : decode cX4_item 36 = .ok (.baload, 1) := dk_51 (dk_at dksX4_item_2 8 rfl rfl)
theorem dX4_item_37 : decode cX4_item 37 = .ok (.ireturn, 1) := dk_172 (dk_at dksX4_item_2 9 rfl rfl)
theorem dX4_item_38 : decode cX4_item 38 = .ok (.aload_n 0, 1) := dk_42 (dk_at dksX4_item_2 10 rfl rfl)
theorem dX4_item_39 : decode cX4_item 39 = .ok (.getfield 7, 3) := dk_180 0 7 (dk_at dksX4_item_2 11 rfl rfl)
theorem dX4_item_42 : decode cX4_item 42 = .ok (.checkcast 15, 3) := dk_192 0 15 (dk_at dksX4_item_2 14 rfl rfl)
theorem dX4_item_45 : decode cX4_item 45 = .ok (.iload_n 2, 1) := dk_28 (dk_at dksX4_item_2 17 rfl rfl)
theorem dX4_item_46 : decode cX4_item 46 = .ok (.saload, 1) := dk_53 (dk_at dksX4_item_2 18 rfl rfl)
theorem dX4_item_47 : decode cX4_item 47 = .ok (.ireturn, 1) := dk_172 (dk_at dksX4_item_2 19 rfl rfl)
theorem dX4_item_48 : decode cX4_item 48 = .ok (.aload_n 0, 1) := dk_42 (dk_at dksX4_item_2 20 rfl rfl)
theorem dX4_item_49 : decode cX4_item 49 = .ok (.getfield 7, 3) := dk_180 0 7 (dk_at dksX4_item_2 21 rfl rfl)
theorem dX4_item_52 : decode cX4_item 52 = .ok (.checkcast 21, 3) := dk_192 0 21 (dk_at dksX4_item_3 0 rfl rfl)
theorem dX4_item_55 : decode cX4_item 55 = .ok (.iload_n 2, 1) := dk_28 (dk_at dksX4_item_3 3 rfl rfl)
theorem dX4_item_56 : decode cX4_item 56 = .ok (.iaload, 1) := dk_46 (dk_at dksX4_item_3 4 rfl rfl)
theorem dX4_item_57 : decode cX4_item 57 = .ok (.ireturn, 1) := dk_172 (dk_at dksX4_item_3 5 rfl rfl)
abbrev cX4_lay : ByteArray := prog_6_method_5_code
def yX4_lay : MethodName := ⟨RX4, "lay", "(III)V"⟩
def dkwX4_lay_3 : List UInt8 := [86, 167, 0, 13, 42, 180, 0, 7, 192, 0, 21, 28, 29, 79, 177]
abbrev dktX4_lay_3 : List UInt8 := dkwX4_lay_3 ++ []
def dkwX4_lay_2 : List UInt8 := [42, 180, 0, 7, 192, 0, 13, 28, 29, 145, 84, 167, 0, 27, 42, 180, 0, 7, 192, 0, 15, 28, 29, 147]
abbrev dktX4_lay_2 : List UInt8 := dkwX4_lay_2 ++ dktX4_lay_3
def dkwX4_lay_1 : List UInt8 := [171, 0, 0, 0, 0, 0, 55, 0, 0, 0, 2, 0, 0, 0, 0, 0, 0, 0, 27, 0, 0, 0, 1, 0, 0, 0, 41]
abbrev dktX4_lay_1 : List UInt8 := dkwX4_lay_1 ++ dktX4_lay_2
def dkwX4_lay_0 : List UInt8 := [27]
abbrev dktX4_lay_0 : List UInt8 := dkwX4_lay_0 ++ dktX4_lay_1
theorem dksX4_lay_0 : cX4_lay.data.toList.drop 0 = dktX4_lay_0 := by decide +kernel
theorem dksX4_lay_1 : cX4_lay.data.toList.drop 1 = dktX4_lay_1 := dk_seg dksX4_lay_0 1 rfl rfl
theorem dksX4_lay_2 : cX4_lay.data.toList.drop 28 = dktX4_lay_2 := dk_seg dksX4_lay_1 27 rfl rfl
theorem dksX4_lay_3 : cX4_lay.data.toList.drop 52 = dktX4_lay_3 := dk_seg dksX4_lay_2 24 rfl rfl
theorem dX4_lay_0 : decode cX4_lay 0 = .ok (.iload_n 1, 1) := dk_27 (dk_at dksX4_lay_0 0 rfl rfl)
theorem dX4_lay_1 : decode cX4_lay 1 = .ok (.lookupswitch 55 #[(0, 27), (1, 41)], 27) := by decide +kernel
theorem dX4_lay_28 : decode cX4_lay 28 = .ok (.aload_n 0, 1) := dk_42 (dk_at dksX4_lay_2 0 rfl rfl)
theorem dX4_lay_29 : decode cX4_lay 29 = .ok (.getfield 7, 3) := dk_180 0 7 (dk_at dksX4_lay_2 1 rfl rfl)
theorem dX4_lay_32 : decode cX4_lay 32 = .ok (.checkcast 13, 3) := dk_192 0 13 (dk_at dksX4_lay_2 4 rfl rfl)
theorem dX4_lay_35 : decode cX4_lay 35 = .ok (.iload_n 2, 1) := dk_28 (dk_at dksX4_lay_2 7 rfl rfl)
theorem dX4_lay_36 : decode cX4_lay 36 = .ok (.iload_n 3, 1) := dk_29 (dk_at dksX4_lay_2 8 rfl rfl)
theorem dX4_lay_37 : decode cX4_lay 37 = .ok (.i2b, 1) := dk_145 (dk_at dksX4_lay_2 9 rfl rfl)
theorem dX4_lay_38 : decode cX4_lay 38 = .ok (.bastore, 1) := dk_84 (dk_at dksX4_lay_2 10 rfl rfl)
theorem dX4_lay_39 : decode cX4_lay 39 = .ok (.goto 27, 3) := dk_167 0 27 (dk_at dksX4_lay_2 11 rfl rfl)
theorem dX4_lay_42 : decode cX4_lay 42 = .ok (.aload_n 0, 1) := dk_42 (dk_at dksX4_lay_2 14 rfl rfl)
theorem dX4_lay_43 : decode cX4_lay 43 = .ok (.getfield 7, 3) := dk_180 0 7 (dk_at dksX4_lay_2 15 rfl rfl)
theorem dX4_lay_46 : decode cX4_lay 46 = .ok (.checkcast 15, 3) := dk_192 0 15 (dk_at dksX4_lay_2 18 rfl rfl)
theorem dX4_lay_49 : decode cX4_lay 49 = .ok (.iload_n 2, 1) := dk_28 (dk_at dksX4_lay_2 21 rfl rfl)
theorem dX4_lay_50 : decode cX4_lay 50 = .ok (.iload_n 3, 1) := dk_29 (dk_at dksX4_lay_2 22 rfl rfl)
theorem dX4_lay_51 : decode cX4_lay 51 = .ok (.i2s, 1) := dk_147 (dk_at dksX4_lay_2 23 rfl rfl)
theorem dX4_lay_52 : decode cX4_lay 52 = .ok (.sastore, 1) := dk_86 (dk_at dksX4_lay_3 0 rfl rfl)
theorem dX4_lay_53 : decode cX4_lay 53 = .ok (.goto 13, 3) := dk_167 0 13 (dk_at dksX4_lay_3 1 rfl rfl)
theorem dX4_lay_56 : decode cX4_lay 56 = .ok (.aload_n 0, 1) := dk_42 (dk_at dksX4_lay_3 4 rfl rfl)
theorem dX4_lay_57 : decode cX4_lay 57 = .ok (.getfield 7, 3) := dk_180 0 7 (dk_at dksX4_lay_3 5 rfl rfl)
theorem dX4_lay_60 : decode cX4_lay 60 = .ok (.checkcast 21, 3) := dk_192 0 21 (dk_at dksX4_lay_3 8 rfl rfl)
theorem dX4_lay_63 : decode cX4_lay 63 = .ok (.iload_n 2, 1) := dk_28 (dk_at dksX4_lay_3 11 rfl rfl)
theorem dX4_lay_64 : decode cX4_lay 64 = .ok (.iload_n 3, 1) := dk_29 (dk_at dksX4_lay_3 12 rfl rfl)
theorem dX4_lay_65 : decode cX4_lay 65 = .ok (.iastore, 1) := dk_79 (dk_at dksX4_lay_3 13 rfl rfl)
theorem dX4_lay_66 : decode cX4_lay 66 = .ok (.return_, 1) := dk_177 (dk_at dksX4_lay_3 14 rfl rfl)
abbrev cX6_init : ByteArray := prog_10_method_1_code
def yX6_init : MethodName := ⟨RX6, "<init>", "(I)V"⟩
def dkwX6_init_0 : List UInt8 := [42, 1, 1, 3, 3, 183, 0, 1, 42, 27, 181, 0, 7, 177]
abbrev dktX6_init_0 : List UInt8 := dkwX6_init_0 ++ []
theorem dksX6_init_0 : cX6_init.data.toList.drop 0 = dktX6_init_0 := by decide +kernel
theorem dX6_init_0 : decode cX6_init 0 = .ok (.aload_n 0, 1) := dk_42 (dk_at dksX6_init_0 0 rfl rfl)
theorem dX6_init_1 : decode cX6_init 1 = .ok (.aconst_null, 1) := dk_1 (dk_at dksX6_init_0 1 rfl rfl)
theorem dX6_init_2 : decode cX6_init 2 = .ok (.aconst_null, 1) := dk_1 (dk_at dksX6_init_0 2 rfl rfl)
theorem dX6_init_3 : decode cX6_init 3 = .ok (.iconst 0, 1) := dk_3 (dk_at dksX6_init_0 3 rfl rfl)
theorem dX6_init_4 : decode cX6_init 4 = .ok (.iconst 0, 1) := dk_3 (dk_at dksX6_init_0 4 rfl rfl)
theorem dX6_init_5 : decode cX6_init 5 = .ok (.invokespecial 1, 3) := dk_183 0 1 (dk_at dksX6_init_0 5 rfl rfl)
theorem dX6_init_8 : decode cX6_init 8 = .ok (.aload_n 0, 1) := dk_42 (dk_at dksX6_init_0 8 rfl rfl)
theorem dX6_init_9 : decode cX6_init 9 = .ok (.iload_n 1, 1) := dk_27 (dk_at dksX6_init_0 9 rfl rfl)
theorem dX6_init_10 : decode cX6_init 10 = .ok (.putfield 7, 3) := dk_181 0 7 (dk_at dksX6_init_0 10 rfl rfl)
theorem dX6_init_13 : decode cX6_init 13 = .ok (.return_, 1) := dk_177 (dk_at dksX6_init_0 13 rfl rfl)
abbrev cX7_init : ByteArray := prog_5_method_1_code
def yX7_init : MethodName := ⟨RX7, "<init>", "(IIII)V"⟩
def dkwX7_init_1 : List UInt8 := [181, 0, 19, 177]
abbrev dktX7_init_1 : List UInt8 := dkwX7_init_1 ++ []
def dkwX7_init_0 : List UInt8 := [42, 183, 0, 1, 42, 27, 181, 0, 7, 42, 28, 181, 0, 13, 42, 29, 181, 0, 16, 42, 21, 4]
abbrev dktX7_init_0 : List UInt8 := dkwX7_init_0 ++ dktX7_init_1
theorem dksX7_init_0 : cX7_init.data.toList.drop 0 = dktX7_init_0 := by decide +kernel
theorem dksX7_init_1 : cX7_init.data.toList.drop 22 = dktX7_init_1 := dk_seg dksX7_init_0 22 rfl rfl
theorem dX7_init_0 : decode cX7_init 0 = .ok (.aload_n 0, 1) := dk_42 (dk_at dksX7_init_0 0 rfl rfl)
theorem dX7_init_1 : decode cX7_init 1 = .ok (.invokespecial 1, 3) := dk_183 0 1 (dk_at dksX7_init_0 1 rfl rfl)
theorem dX7_init_4 : decode cX7_init 4 = .ok (.aload_n 0, 1) := dk_42 (dk_at dksX7_init_0 4 rfl rfl)
theorem dX7_init_5 : decode cX7_init 5 = .ok (.iload_n 1, 1) := dk_27 (dk_at dksX7_init_0 5 rfl rfl)
theorem dX7_init_6 : decode cX7_init 6 = .ok (.putfield 7, 3) := dk_181 0 7 (dk_at dksX7_init_0 6 rfl rfl)
theorem dX7_init_9 : decode cX7_init 9 = .ok (.aload_n 0, 1) := dk_42 (dk_at dksX7_init_0 9 rfl rfl)
theorem dX7_init_10 : decode cX7_init 10 = .ok (.iload_n 2, 1) := dk_28 (dk_at dksX7_init_0 10 rfl rfl)
theorem dX7_init_11 : decode cX7_init 11 = .ok (.putfield 13, 3) := dk_181 0 13 (dk_at dksX7_init_0 11 rfl rfl)
theorem dX7_init_14 : decode cX7_init 14 = .ok (.aload_n 0, 1) := dk_42 (dk_at dksX7_init_0 14 rfl rfl)
theorem dX7_init_15 : decode cX7_init 15 = .ok (.iload_n 3, 1) := dk_29 (dk_at dksX7_init_0 15 rfl rfl)
theorem dX7_init_16 : decode cX7_init 16 = .ok (.putfield 16, 3) := dk_181 0 16 (dk_at dksX7_init_0 16 rfl rfl)
theorem dX7_init_19 : decode cX7_init 19 = .ok (.aload_n 0, 1) := dk_42 (dk_at dksX7_init_0 19 rfl rfl)
theorem dX7_init_20 : decode cX7_init 20 = .ok (.iload 4, 2) := dk_21 4 (dk_at dksX7_init_0 20 rfl rfl)
theorem dX7_init_22 : decode cX7_init 22 = .ok (.putfield 19, 3) := dk_181 0 19 (dk_at dksX7_init_1 0 rfl rfl)
theorem dX7_init_25 : decode cX7_init 25 = .ok (.return_, 1) := dk_177 (dk_at dksX7_init_1 3 rfl rfl)
abbrev cX7_by : ByteArray := prog_5_method_2_code
def yX7_by : MethodName := ⟨RX7, "by", "(I)I"⟩
def dkwX7_by_2 : List UInt8 := [42, 180, 0, 7, 172, 42, 180, 0, 13, 172, 42, 180, 0, 16, 172, 42, 180, 0, 19, 172]
abbrev dktX7_by_2 : List UInt8 := dkwX7_by_2 ++ []
def dkwX7_by_1 : List UInt8 := [170, 0, 0, 0, 0, 0, 42, 0, 0, 0, 0, 0, 0, 0, 2, 0, 0, 0, 27, 0, 0, 0, 32, 0, 0, 0, 37]
abbrev dktX7_by_1 : List UInt8 := dkwX7_by_1 ++ dktX7_by_2
def dkwX7_by_0 : List UInt8 := [27]
abbrev dktX7_by_0 : List UInt8 := dkwX7_by_0 ++ dktX7_by_1
theorem dksX7_by_0 : cX7_by.data.toList.drop 0 = dktX7_by_0 := by decide +kernel
theorem dksX7_by_1 : cX7_by.data.toList.drop 1 = dktX7_by_1 := dk_seg dksX7_by_0 1 rfl rfl
theorem dksX7_by_2 : cX7_by.data.toList.drop 28 = dktX7_by_2 := dk_seg dksX7_by_1 27 rfl rfl
theorem dX7_by_0 : decode cX7_by 0 = .ok (.iload_n 1, 1) := dk_27 (dk_at dksX7_by_0 0 rfl rfl)
theorem dX7_by_1 : decode cX7_by 1 = .ok (.tableswitch 42 0 2 #[27, 32, 37], 27) := by decide +kernel
theorem dX7_by_28 : decode cX7_by 28 = .ok (.aload_n 0, 1) := dk_42 (dk_at dksX7_by_2 0 rfl rfl)
theorem dX7_by_29 : decode cX7_by 29 = .ok (.getfield 7, 3) := dk_180 0 7 (dk_at dksX7_by_2 1 rfl rfl)
theorem dX7_by_32 : decode cX7_by 32 = .ok (.ireturn, 1) := dk_172 (dk_at dksX7_by_2 4 rfl rfl)
theorem dX7_by_33 : decode cX7_by 33 = .ok (.aload_n 0, 1) := dk_42 (dk_at dksX7_by_2 5 rfl rfl)
theorem dX7_by_34 : decode cX7_by 34 = .ok (.getfield 13, 3) := dk_180 0 13 (dk_at dksX7_by_2 6 rfl rfl)
theorem dX7_by_37 : decode cX7_by 37 = .ok (.ireturn, 1) := dk_172 (dk_at dksX7_by_2 9 rfl rfl)
theorem dX7_by_38 : decode cX7_by 38 = .ok (.aload_n 0, 1) := dk_42 (dk_at dksX7_by_2 10 rfl rfl)
theorem dX7_by_39 : decode cX7_by 39 = .ok (.getfield 16, 3) := dk_180 0 16 (dk_at dksX7_by_2 11 rfl rfl)
theorem dX7_by_42 : decode cX7_by 42 = .ok (.ireturn, 1) := dk_172 (dk_at dksX7_by_2 14 rfl rfl)
theorem dX7_by_43 : decode cX7_by 43 = .ok (.aload_n 0, 1) := dk_42 (dk_at dksX7_by_2 15 rfl rfl)
theorem dX7_by_44 : decode cX7_by 44 = .ok (.getfield 19, 3) := dk_180 0 19 (dk_at dksX7_by_2 16 rfl rfl)
theorem dX7_by_47 : decode cX7_by 47 = .ok (.ireturn, 1) := dk_172 (dk_at dksX7_by_2 19 rfl rfl)
abbrev cX8_init : ByteArray := prog_4_method_1_code
def yX8_init : MethodName := ⟨RX8, "<init>", "(LPromiseTailor$Sort;I)V"⟩
def dkwX8_init_0 : List UInt8 := [42, 183, 0, 1, 42, 43, 181, 0, 7, 42, 28, 181, 0, 13, 177]
abbrev dktX8_init_0 : List UInt8 := dkwX8_init_0 ++ []
theorem dksX8_init_0 : cX8_init.data.toList.drop 0 = dktX8_init_0 := by decide +kernel
theorem dX8_init_0 : decode cX8_init 0 = .ok (.aload_n 0, 1) := dk_42 (dk_at dksX8_init_0 0 rfl rfl)
theorem dX8_init_1 : decode cX8_init 1 = .ok (.invokespecial 1, 3) := dk_183 0 1 (dk_at dksX8_init_0 1 rfl rfl)
theorem dX8_init_4 : decode cX8_init 4 = .ok (.aload_n 0, 1) := dk_42 (dk_at dksX8_init_0 4 rfl rfl)
theorem dX8_init_5 : decode cX8_init 5 = .ok (.aload_n 1, 1) := dk_43 (dk_at dksX8_init_0 5 rfl rfl)
theorem dX8_init_6 : decode cX8_init 6 = .ok (.putfield 7, 3) := dk_181 0 7 (dk_at dksX8_init_0 6 rfl rfl)
theorem dX8_init_9 : decode cX8_init 9 = .ok (.aload_n 0, 1) := dk_42 (dk_at dksX8_init_0 9 rfl rfl)
theorem dX8_init_10 : decode cX8_init 10 = .ok (.iload_n 2, 1) := dk_28 (dk_at dksX8_init_0 10 rfl rfl)
theorem dX8_init_11 : decode cX8_init 11 = .ok (.putfield 13, 3) := dk_181 0 13 (dk_at dksX8_init_0 11 rfl rfl)
theorem dX8_init_14 : decode cX8_init 14 = .ok (.return_, 1) := dk_177 (dk_at dksX8_init_0 14 rfl rfl)
abbrev cX8_by : ByteArray := prog_4_method_2_code
def yX8_by : MethodName := ⟨RX8, "by", "(I)I"⟩
def dkwX8_by_0 : List UInt8 := [27, 154, 0, 13, 42, 180, 0, 7, 182, 0, 17, 167, 0, 7, 42, 180, 0, 13, 172]
abbrev dktX8_by_0 : List UInt8 := dkwX8_by_0 ++ []
theorem dksX8_by_0 : cX8_by.data.toList.drop 0 = dktX8_by_0 := by decide +kernel
theorem dX8_by_0 : decode cX8_by 0 = .ok (.iload_n 1, 1) := dk_27 (dk_at dksX8_by_0 0 rfl rfl)
theorem dX8_by_1 : decode cX8_by 1 = .ok (.ifCond .ne 13, 3) := dk_154 0 13 (dk_at dksX8_by_0 1 rfl rfl)
theorem dX8_by_4 : decode cX8_by 4 = .ok (.aload_n 0, 1) := dk_42 (dk_at dksX8_by_0 4 rfl rfl)
theorem dX8_by_5 : decode cX8_by 5 = .ok (.getfield 7, 3) := dk_180 0 7 (dk_at dksX8_by_0 5 rfl rfl)
theorem dX8_by_8 : decode cX8_by 8 = .ok (.invokevirtual 17, 3) := dk_182 0 17 (dk_at dksX8_by_0 8 rfl rfl)
theorem dX8_by_11 : decode cX8_by 11 = .ok (.goto 7, 3) := dk_167 0 7 (dk_at dksX8_by_0 11 rfl rfl)
theorem dX8_by_14 : decode cX8_by 14 = .ok (.aload_n 0, 1) := dk_42 (dk_at dksX8_by_0 14 rfl rfl)
theorem dX8_by_15 : decode cX8_by 15 = .ok (.getfield 13, 3) := dk_180 0 13 (dk_at dksX8_by_0 15 rfl rfl)
theorem dX8_by_18 : decode cX8_by 18 = .ok (.ireturn, 1) := dk_172 (dk_at dksX8_by_0 18 rfl rfl)
abbrev cX9_number : ByteArray := prog_2_method_2_code
def yX9_number : MethodName := ⟨RX9, "number", "()I"⟩
def dkwX9_number_0 : List UInt8 := [42, 183, 0, 7, 5, 96, 172]
abbrev dktX9_number_0 : List UInt8 := dkwX9_number_0 ++ []
theorem dksX9_number_0 : cX9_number.data.toList.drop 0 = dktX9_number_0 := by decide +kernel
theorem dX9_number_0 : decode cX9_number 0 = .ok (.aload_n 0, 1) := dk_42 (dk_at dksX9_number_0 0 rfl rfl)
theorem dX9_number_1 : decode cX9_number 1 = .ok (.invokespecial 7, 3) := dk_183 0 7 (dk_at dksX9_number_0 1 rfl rfl)
theorem dX9_number_4 : decode cX9_number 4 = .ok (.iconst 2, 1) := dk_5 (dk_at dksX9_number_0 4 rfl rfl)
theorem dX9_number_5 : decode cX9_number 5 = .ok (.iadd, 1) := dk_96 (dk_at dksX9_number_0 5 rfl rfl)
theorem dX9_number_6 : decode cX9_number 6 = .ok (.ireturn, 1) := dk_172 (dk_at dksX9_number_0 6 rfl rfl)
abbrev cX9_longer : ByteArray := prog_2_method_3_code
def yX9_longer : MethodName := ⟨RX9, "longer", "(I)I"⟩
theorem dX9_longer_0 : decode cX9_longer 0 = .ok (.iload_n 1, 1) := by decide +kernel
theorem dX9_longer_1 : decode cX9_longer 1 = .ok (.ireturn, 1) := by decide +kernel
abbrev cX9_shorter : ByteArray := prog_2_method_4_code
def yX9_shorter : MethodName := ⟨RX9, "shorter", "(I)I"⟩
def dkwX9_shorter_0 : List UInt8 := [42, 27, 183, 0, 11, 5, 96, 172]
abbrev dktX9_shorter_0 : List UInt8 := dkwX9_shorter_0 ++ []
theorem dksX9_shorter_0 : cX9_shorter.data.toList.drop 0 = dktX9_shorter_0 := by decide +kernel
theorem dX9_shorter_0 : decode cX9_shorter 0 = .ok (.aload_n 0, 1) := dk_42 (dk_at dksX9_shorter_0 0 rfl rfl)
theorem dX9_shorter_1 : decode cX9_shorter 1 = .ok (.iload_n 1, 1) := dk_27 (dk_at dksX9_shorter_0 1 rfl rfl)
theorem dX9_shorter_2 : decode cX9_shorter 2 = .ok (.invokespecial 11, 3) := dk_183 0 11 (dk_at dksX9_shorter_0 2 rfl rfl)
theorem dX9_shorter_5 : decode cX9_shorter 5 = .ok (.iconst 2, 1) := dk_5 (dk_at dksX9_shorter_0 5 rfl rfl)
theorem dX9_shorter_6 : decode cX9_shorter 6 = .ok (.iadd, 1) := dk_96 (dk_at dksX9_shorter_0 6 rfl rfl)
theorem dX9_shorter_7 : decode cX9_shorter 7 = .ok (.ireturn, 1) := dk_172 (dk_at dksX9_shorter_0 7 rfl rfl)
abbrev cX10_number : ByteArray := prog_7_method_2_code
def yX10_number : MethodName := ⟨RX10, "number", "()I"⟩
theorem dX10_number_0 : decode cX10_number 0 = .ok (.iconst 0, 1) := by decide +kernel
theorem dX10_number_1 : decode cX10_number 1 = .ok (.ireturn, 1) := by decide +kernel
abbrev cX10_longer : ByteArray := prog_7_method_3_code
def yX10_longer : MethodName := ⟨RX10, "longer", "(I)I"⟩
def dkwX10_longer_0 : List UInt8 := [27, 5, 108, 172]
abbrev dktX10_longer_0 : List UInt8 := dkwX10_longer_0 ++ []
theorem dksX10_longer_0 : cX10_longer.data.toList.drop 0 = dktX10_longer_0 := by decide +kernel
theorem dX10_longer_0 : decode cX10_longer 0 = .ok (.iload_n 1, 1) := dk_27 (dk_at dksX10_longer_0 0 rfl rfl)
theorem dX10_longer_1 : decode cX10_longer 1 = .ok (.iconst 2, 1) := dk_5 (dk_at dksX10_longer_0 1 rfl rfl)
theorem dX10_longer_2 : decode cX10_longer 2 = .ok (.idiv, 1) := dk_108 (dk_at dksX10_longer_0 2 rfl rfl)
theorem dX10_longer_3 : decode cX10_longer 3 = .ok (.ireturn, 1) := dk_172 (dk_at dksX10_longer_0 3 rfl rfl)
abbrev cX10_shorter : ByteArray := prog_7_method_4_code
def yX10_shorter : MethodName := ⟨RX10, "shorter", "(I)I"⟩
def dkwX10_shorter_0 : List UInt8 := [42, 27, 182, 0, 7, 172]
abbrev dktX10_shorter_0 : List UInt8 := dkwX10_shorter_0 ++ []
theorem dksX10_shorter_0 : cX10_shorter.data.toList.drop 0 = dktX10_shorter_0 := by decide +kernel
theorem dX10_shorter_0 : decode cX10_shorter 0 = .ok (.aload_n 0, 1) := dk_42 (dk_at dksX10_shorter_0 0 rfl rfl)
theorem dX10_shorter_1 : decode cX10_shorter 1 = .ok (.iload_n 1, 1) := dk_27 (dk_at dksX10_shorter_0 1 rfl rfl)
theorem dX10_shorter_2 : decode cX10_shorter 2 = .ok (.invokevirtual 7, 3) := dk_182 0 7 (dk_at dksX10_shorter_0 2 rfl rfl)
theorem dX10_shorter_5 : decode cX10_shorter 5 = .ok (.ireturn, 1) := dk_172 (dk_at dksX10_shorter_0 5 rfl rfl)
abbrev cX11_number : ByteArray := prog_8_method_2_code
def yX11_number : MethodName := ⟨RX11, "number", "()I"⟩
def dkwX11_number_0 : List UInt8 := [42, 183, 0, 7, 4, 96, 172]
abbrev dktX11_number_0 : List UInt8 := dkwX11_number_0 ++ []
theorem dksX11_number_0 : cX11_number.data.toList.drop 0 = dktX11_number_0 := by decide +kernel
theorem dX11_number_0 : decode cX11_number 0 = .ok (.aload_n 0, 1) := dk_42 (dk_at dksX11_number_0 0 rfl rfl)
theorem dX11_number_1 : decode cX11_number 1 = .ok (.invokespecial 7, 3) := dk_183 0 7 (dk_at dksX11_number_0 1 rfl rfl)
theorem dX11_number_4 : decode cX11_number 4 = .ok (.iconst 1, 1) := dk_4 (dk_at dksX11_number_0 4 rfl rfl)
theorem dX11_number_5 : decode cX11_number 5 = .ok (.iadd, 1) := dk_96 (dk_at dksX11_number_0 5 rfl rfl)
theorem dX11_number_6 : decode cX11_number 6 = .ok (.ireturn, 1) := dk_172 (dk_at dksX11_number_0 6 rfl rfl)
abbrev cX11_longer : ByteArray := prog_8_method_3_code
def yX11_longer : MethodName := ⟨RX11, "longer", "(I)I"⟩
def dkwX11_longer_0 : List UInt8 := [5, 27, 104, 172]
abbrev dktX11_longer_0 : List UInt8 := dkwX11_longer_0 ++ []
theorem dksX11_longer_0 : cX11_longer.data.toList.drop 0 = dktX11_longer_0 := by decide +kernel
theorem dX11_longer_0 : decode cX11_longer 0 = .ok (.iconst 2, 1) := dk_5 (dk_at dksX11_longer_0 0 rfl rfl)
theorem dX11_longer_1 : decode cX11_longer 1 = .ok (.iload_n 1, 1) := dk_27 (dk_at dksX11_longer_0 1 rfl rfl)
theorem dX11_longer_2 : decode cX11_longer 2 = .ok (.imul, 1) := dk_104 (dk_at dksX11_longer_0 2 rfl rfl)
theorem dX11_longer_3 : decode cX11_longer 3 = .ok (.ireturn, 1) := dk_172 (dk_at dksX11_longer_0 3 rfl rfl)
theorem hs_X1_init : yX1_init.cls ≠ "java/lang/invoke/MethodHandle" ∧ yX1_init.cls ≠ "java/lang/invoke/VarHandle" ∧ (parseMethodDescriptor yX1_init.desc).map (fun d => d.parameters.length) = some 2 := by decide +kernel
theorem hv_X1_init : yX1_init.cls = RX1 ∧ yX1_init.cls ≠ "java/lang/invoke/MethodHandle" ∧ yX1_init.cls ≠ "java/lang/invoke/VarHandle" ∧ (parseMethodDescriptor yX1_init.desc).map (fun d => d.parameters.length) = some 2 := ⟨rfl, hs_X1_init⟩
theorem hs_X1_type : yX1_type.cls ≠ "java/lang/invoke/MethodHandle" ∧ yX1_type.cls ≠ "java/lang/invoke/VarHandle" ∧ (parseMethodDescriptor yX1_type.desc).map (fun d => d.parameters.length) = some 1 := by decide +kernel
theorem hv_X1_type : yX1_type.cls = RX1 ∧ yX1_type.cls ≠ "java/lang/invoke/MethodHandle" ∧ yX1_type.cls ≠ "java/lang/invoke/VarHandle" ∧ (parseMethodDescriptor yX1_type.desc).map (fun d => d.parameters.length) = some 1 := ⟨rfl, hs_X1_type⟩
theorem hs_X1_wipe : yX1_wipe.cls ≠ "java/lang/invoke/MethodHandle" ∧ yX1_wipe.cls ≠ "java/lang/invoke/VarHandle" ∧ (parseMethodDescriptor yX1_wipe.desc).map (fun d => d.parameters.length) = some 0 := by decide +kernel
theorem hv_X1_wipe : yX1_wipe.cls = RX1 ∧ yX1_wipe.cls ≠ "java/lang/invoke/MethodHandle" ∧ yX1_wipe.cls ≠ "java/lang/invoke/VarHandle" ∧ (parseMethodDescriptor yX1_wipe.desc).map (fun d => d.parameters.length) = some 0 := ⟨rfl, hs_X1_wipe⟩
theorem hs_X1_undo : yX1_undo.cls ≠ "java/lang/invoke/MethodHandle" ∧ yX1_undo.cls ≠ "java/lang/invoke/VarHandle" ∧ (parseMethodDescriptor yX1_undo.desc).map (fun d => d.parameters.length) = some 0 := by decide +kernel
theorem hv_X1_undo : yX1_undo.cls = RX1 ∧ yX1_undo.cls ≠ "java/lang/invoke/MethodHandle" ∧ yX1_undo.cls ≠ "java/lang/invoke/VarHandle" ∧ (parseMethodDescriptor yX1_undo.desc).map (fun d => d.parameters.length) = some 0 := ⟨rfl, hs_X1_undo⟩
theorem hs_X1_read : yX1_read.cls ≠ "java/lang/invoke/MethodHandle" ∧ yX1_read.cls ≠ "java/lang/invoke/VarHandle" ∧ (parseMethodDescriptor yX1_read.desc).map (fun d => d.parameters.length) = some 0 := by decide +kernel
theorem hv_X1_read : yX1_read.cls = RX1 ∧ yX1_read.cls ≠ "java/lang/invoke/MethodHandle" ∧ yX1_read.cls ≠ "java/lang/invoke/VarHandle" ∧ (parseMethodDescriptor yX1_read.desc).map (fun d => d.parameters.length) = some 0 := ⟨rfl, hs_X1_read⟩
theorem hs_X1_reads : yX1_reads.cls ≠ "java/lang/invoke/MethodHandle" ∧ yX1_reads.cls ≠ "java/lang/invoke/VarHandle" ∧ (parseMethodDescriptor yX1_reads.desc).map (fun d => d.parameters.length) = some 0 := by decide +kernel
theorem hv_X1_reads : yX1_reads.cls = RX1 ∧ yX1_reads.cls ≠ "java/lang/invoke/MethodHandle" ∧ yX1_reads.cls ≠ "java/lang/invoke/VarHandle" ∧ (parseMethodDescriptor yX1_reads.desc).map (fun d => d.parameters.length) = some 0 := ⟨rfl, hs_X1_reads⟩
theorem hs_X1_next : yX1_next.cls ≠ "java/lang/invoke/MethodHandle" ∧ yX1_next.cls ≠ "java/lang/invoke/VarHandle" ∧ (parseMethodDescriptor yX1_next.desc).map (fun d => d.parameters.length) = some 0 := by decide +kernel
theorem hv_X1_next : yX1_next.cls = RX1 ∧ yX1_next.cls ≠ "java/lang/invoke/MethodHandle" ∧ yX1_next.cls ≠ "java/lang/invoke/VarHandle" ∧ (parseMethodDescriptor yX1_next.desc).map (fun d => d.parameters.length) = some 0 := ⟨rfl, hs_X1_next⟩
theorem hs_X1_passes : yX1_passes.cls ≠ "java/lang/invoke/MethodHandle" ∧ yX1_passes.cls ≠ "java/lang/invoke/VarHandle" ∧ (parseMethodDescriptor yX1_passes.desc).map (fun d => d.parameters.length) = some 1 := by decide +kernel
theorem hv_X1_passes : yX1_passes.cls = RX1 ∧ yX1_passes.cls ≠ "java/lang/invoke/MethodHandle" ∧ yX1_passes.cls ≠ "java/lang/invoke/VarHandle" ∧ (parseMethodDescriptor yX1_passes.desc).map (fun d => d.parameters.length) = some 1 := ⟨rfl, hs_X1_passes⟩
theorem hs_X1_many : yX1_many.cls ≠ "java/lang/invoke/MethodHandle" ∧ yX1_many.cls ≠ "java/lang/invoke/VarHandle" ∧ (parseMethodDescriptor yX1_many.desc).map (fun d => d.parameters.length) = some 0 := by decide +kernel
theorem hv_X1_many : yX1_many.cls = RX1 ∧ yX1_many.cls ≠ "java/lang/invoke/MethodHandle" ∧ yX1_many.cls ≠ "java/lang/invoke/VarHandle" ∧ (parseMethodDescriptor yX1_many.desc).map (fun d => d.parameters.length) = some 0 := ⟨rfl, hs_X1_many⟩
theorem hs_X1_length : yX1_length.cls ≠ "java/lang/invoke/MethodHandle" ∧ yX1_length.cls ≠ "java/lang/invoke/VarHandle" ∧ (parseMethodDescriptor yX1_length.desc).map (fun d => d.parameters.length) = some 0 := by decide +kernel
theorem hv_X1_length : yX1_length.cls = RX1 ∧ yX1_length.cls ≠ "java/lang/invoke/MethodHandle" ∧ yX1_length.cls ≠ "java/lang/invoke/VarHandle" ∧ (parseMethodDescriptor yX1_length.desc).map (fun d => d.parameters.length) = some 0 := ⟨rfl, hs_X1_length⟩
theorem hs_X2_init : yX2_init.cls ≠ "java/lang/invoke/MethodHandle" ∧ yX2_init.cls ≠ "java/lang/invoke/VarHandle" ∧ (parseMethodDescriptor yX2_init.desc).map (fun d => d.parameters.length) = some 0 := by decide +kernel
theorem hv_X2_init : yX2_init.cls = RX2 ∧ yX2_init.cls ≠ "java/lang/invoke/MethodHandle" ∧ yX2_init.cls ≠ "java/lang/invoke/VarHandle" ∧ (parseMethodDescriptor yX2_init.desc).map (fun d => d.parameters.length) = some 0 := ⟨rfl, hs_X2_init⟩
theorem hs_X2_part : yX2_part.cls ≠ "java/lang/invoke/MethodHandle" ∧ yX2_part.cls ≠ "java/lang/invoke/VarHandle" ∧ (parseMethodDescriptor yX2_part.desc).map (fun d => d.parameters.length) = some 0 := by decide +kernel
theorem hv_X2_part : yX2_part.cls = RX2 ∧ yX2_part.cls ≠ "java/lang/invoke/MethodHandle" ∧ yX2_part.cls ≠ "java/lang/invoke/VarHandle" ∧ (parseMethodDescriptor yX2_part.desc).map (fun d => d.parameters.length) = some 0 := ⟨rfl, hs_X2_part⟩
theorem hs_X2_part_2 : yX2_part_2.cls ≠ "java/lang/invoke/MethodHandle" ∧ yX2_part_2.cls ≠ "java/lang/invoke/VarHandle" ∧ (parseMethodDescriptor yX2_part_2.desc).map (fun d => d.parameters.length) = some 0 := by decide +kernel
theorem hv_X2_part_2 : yX2_part_2.cls = RX2 ∧ yX2_part_2.cls ≠ "java/lang/invoke/MethodHandle" ∧ yX2_part_2.cls ≠ "java/lang/invoke/VarHandle" ∧ (parseMethodDescriptor yX2_part_2.desc).map (fun d => d.parameters.length) = some 0 := ⟨rfl, hs_X2_part_2⟩
theorem hs_X3_init : yX3_init.cls ≠ "java/lang/invoke/MethodHandle" ∧ yX3_init.cls ≠ "java/lang/invoke/VarHandle" ∧ (parseMethodDescriptor yX3_init.desc).map (fun d => d.parameters.length) = some 0 := by decide +kernel
theorem hv_X3_init : yX3_init.cls = RX3 ∧ yX3_init.cls ≠ "java/lang/invoke/MethodHandle" ∧ yX3_init.cls ≠ "java/lang/invoke/VarHandle" ∧ (parseMethodDescriptor yX3_init.desc).map (fun d => d.parameters.length) = some 0 := ⟨rfl, hs_X3_init⟩
theorem hs_X3_part : yX3_part.cls ≠ "java/lang/invoke/MethodHandle" ∧ yX3_part.cls ≠ "java/lang/invoke/VarHandle" ∧ (parseMethodDescriptor yX3_part.desc).map (fun d => d.parameters.length) = some 0 := by decide +kernel
theorem hv_X3_part : yX3_part.cls = RX3 ∧ yX3_part.cls ≠ "java/lang/invoke/MethodHandle" ∧ yX3_part.cls ≠ "java/lang/invoke/VarHandle" ∧ (parseMethodDescriptor yX3_part.desc).map (fun d => d.parameters.length) = some 0 := ⟨rfl, hs_X3_part⟩
theorem hs_X3_part_2 : yX3_part_2.cls ≠ "java/lang/invoke/MethodHandle" ∧ yX3_part_2.cls ≠ "java/lang/invoke/VarHandle" ∧ (parseMethodDescriptor yX3_part_2.desc).map (fun d => d.parameters.length) = some 0 := by decide +kernel
theorem hv_X3_part_2 : yX3_part_2.cls = RX3 ∧ yX3_part_2.cls ≠ "java/lang/invoke/MethodHandle" ∧ yX3_part_2.cls ≠ "java/lang/invoke/VarHandle" ∧ (parseMethodDescriptor yX3_part_2.desc).map (fun d => d.parameters.length) = some 0 := ⟨rfl, hs_X3_part_2⟩
theorem hs_X4_init : yX4_init.cls ≠ "java/lang/invoke/MethodHandle" ∧ yX4_init.cls ≠ "java/lang/invoke/VarHandle" ∧ (parseMethodDescriptor yX4_init.desc).map (fun d => d.parameters.length) = some 0 := by decide +kernel
theorem hv_X4_init : yX4_init.cls = RX4 ∧ yX4_init.cls ≠ "java/lang/invoke/MethodHandle" ∧ yX4_init.cls ≠ "java/lang/invoke/VarHandle" ∧ (parseMethodDescriptor yX4_init.desc).map (fun d => d.parameters.length) = some 0 := ⟨rfl, hs_X4_init⟩
theorem hs_X4_size : yX4_size.cls ≠ "java/lang/invoke/MethodHandle" ∧ yX4_size.cls ≠ "java/lang/invoke/VarHandle" ∧ (parseMethodDescriptor yX4_size.desc).map (fun d => d.parameters.length) = some 0 := by decide +kernel
theorem hv_X4_size : yX4_size.cls = RX4 ∧ yX4_size.cls ≠ "java/lang/invoke/MethodHandle" ∧ yX4_size.cls ≠ "java/lang/invoke/VarHandle" ∧ (parseMethodDescriptor yX4_size.desc).map (fun d => d.parameters.length) = some 0 := ⟨rfl, hs_X4_size⟩
theorem hs_X4_type : yX4_type.cls ≠ "java/lang/invoke/MethodHandle" ∧ yX4_type.cls ≠ "java/lang/invoke/VarHandle" ∧ (parseMethodDescriptor yX4_type.desc).map (fun d => d.parameters.length) = some 0 := by decide +kernel
theorem hv_X4_type : yX4_type.cls = RX4 ∧ yX4_type.cls ≠ "java/lang/invoke/MethodHandle" ∧ yX4_type.cls ≠ "java/lang/invoke/VarHandle" ∧ (parseMethodDescriptor yX4_type.desc).map (fun d => d.parameters.length) = some 0 := ⟨rfl, hs_X4_type⟩
theorem hs_X4_item : yX4_item.cls ≠ "java/lang/invoke/MethodHandle" ∧ yX4_item.cls ≠ "java/lang/invoke/VarHandle" ∧ (parseMethodDescriptor yX4_item.desc).map (fun d => d.parameters.length) = some 2 := by decide +kernel
theorem hv_X4_item : yX4_item.cls = RX4 ∧ yX4_item.cls ≠ "java/lang/invoke/MethodHandle" ∧ yX4_item.cls ≠ "java/lang/invoke/VarHandle" ∧ (parseMethodDescriptor yX4_item.desc).map (fun d => d.parameters.length) = some 2 := ⟨rfl, hs_X4_item⟩
theorem hs_X4_lay : yX4_lay.cls ≠ "java/lang/invoke/MethodHandle" ∧ yX4_lay.cls ≠ "java/lang/invoke/VarHandle" ∧ (parseMethodDescriptor yX4_lay.desc).map (fun d => d.parameters.length) = some 3 := by decide +kernel
theorem hv_X4_lay : yX4_lay.cls = RX4 ∧ yX4_lay.cls ≠ "java/lang/invoke/MethodHandle" ∧ yX4_lay.cls ≠ "java/lang/invoke/VarHandle" ∧ (parseMethodDescriptor yX4_lay.desc).map (fun d => d.parameters.length) = some 3 := ⟨rfl, hs_X4_lay⟩
theorem hs_X6_init : yX6_init.cls ≠ "java/lang/invoke/MethodHandle" ∧ yX6_init.cls ≠ "java/lang/invoke/VarHandle" ∧ (parseMethodDescriptor yX6_init.desc).map (fun d => d.parameters.length) = some 1 := by decide +kernel
theorem hv_X6_init : yX6_init.cls = RX6 ∧ yX6_init.cls ≠ "java/lang/invoke/MethodHandle" ∧ yX6_init.cls ≠ "java/lang/invoke/VarHandle" ∧ (parseMethodDescriptor yX6_init.desc).map (fun d => d.parameters.length) = some 1 := ⟨rfl, hs_X6_init⟩
theorem hs_X7_init : yX7_init.cls ≠ "java/lang/invoke/MethodHandle" ∧ yX7_init.cls ≠ "java/lang/invoke/VarHandle" ∧ (parseMethodDescriptor yX7_init.desc).map (fun d => d.parameters.length) = some 4 := by decide +kernel
theorem hv_X7_init : yX7_init.cls = RX7 ∧ yX7_init.cls ≠ "java/lang/invoke/MethodHandle" ∧ yX7_init.cls ≠ "java/lang/invoke/VarHandle" ∧ (parseMethodDescriptor yX7_init.desc).map (fun d => d.parameters.length) = some 4 := ⟨rfl, hs_X7_init⟩
theorem hs_X7_by : yX7_by.cls ≠ "java/lang/invoke/MethodHandle" ∧ yX7_by.cls ≠ "java/lang/invoke/VarHandle" ∧ (parseMethodDescriptor yX7_by.desc).map (fun d => d.parameters.length) = some 1 := by decide +kernel
theorem hv_X7_by : yX7_by.cls = RX7 ∧ yX7_by.cls ≠ "java/lang/invoke/MethodHandle" ∧ yX7_by.cls ≠ "java/lang/invoke/VarHandle" ∧ (parseMethodDescriptor yX7_by.desc).map (fun d => d.parameters.length) = some 1 := ⟨rfl, hs_X7_by⟩
theorem hs_X8_init : yX8_init.cls ≠ "java/lang/invoke/MethodHandle" ∧ yX8_init.cls ≠ "java/lang/invoke/VarHandle" ∧ (parseMethodDescriptor yX8_init.desc).map (fun d => d.parameters.length) = some 2 := by decide +kernel
theorem hv_X8_init : yX8_init.cls = RX8 ∧ yX8_init.cls ≠ "java/lang/invoke/MethodHandle" ∧ yX8_init.cls ≠ "java/lang/invoke/VarHandle" ∧ (parseMethodDescriptor yX8_init.desc).map (fun d => d.parameters.length) = some 2 := ⟨rfl, hs_X8_init⟩
theorem hs_X8_by : yX8_by.cls ≠ "java/lang/invoke/MethodHandle" ∧ yX8_by.cls ≠ "java/lang/invoke/VarHandle" ∧ (parseMethodDescriptor yX8_by.desc).map (fun d => d.parameters.length) = some 1 := by decide +kernel
theorem hv_X8_by : yX8_by.cls = RX8 ∧ yX8_by.cls ≠ "java/lang/invoke/MethodHandle" ∧ yX8_by.cls ≠ "java/lang/invoke/VarHandle" ∧ (parseMethodDescriptor yX8_by.desc).map (fun d => d.parameters.length) = some 1 := ⟨rfl, hs_X8_by⟩
theorem hs_X9_number : yX9_number.cls ≠ "java/lang/invoke/MethodHandle" ∧ yX9_number.cls ≠ "java/lang/invoke/VarHandle" ∧ (parseMethodDescriptor yX9_number.desc).map (fun d => d.parameters.length) = some 0 := by decide +kernel
theorem hv_X9_number : yX9_number.cls = RX9 ∧ yX9_number.cls ≠ "java/lang/invoke/MethodHandle" ∧ yX9_number.cls ≠ "java/lang/invoke/VarHandle" ∧ (parseMethodDescriptor yX9_number.desc).map (fun d => d.parameters.length) = some 0 := ⟨rfl, hs_X9_number⟩
theorem hs_X9_longer : yX9_longer.cls ≠ "java/lang/invoke/MethodHandle" ∧ yX9_longer.cls ≠ "java/lang/invoke/VarHandle" ∧ (parseMethodDescriptor yX9_longer.desc).map (fun d => d.parameters.length) = some 1 := by decide +kernel
theorem hv_X9_longer : yX9_longer.cls = RX9 ∧ yX9_longer.cls ≠ "java/lang/invoke/MethodHandle" ∧ yX9_longer.cls ≠ "java/lang/invoke/VarHandle" ∧ (parseMethodDescriptor yX9_longer.desc).map (fun d => d.parameters.length) = some 1 := ⟨rfl, hs_X9_longer⟩
theorem hs_X9_shorter : yX9_shorter.cls ≠ "java/lang/invoke/MethodHandle" ∧ yX9_shorter.cls ≠ "java/lang/invoke/VarHandle" ∧ (parseMethodDescriptor yX9_shorter.desc).map (fun d => d.parameters.length) = some 1 := by decide +kernel
theorem hv_X9_shorter : yX9_shorter.cls = RX9 ∧ yX9_shorter.cls ≠ "java/lang/invoke/MethodHandle" ∧ yX9_shorter.cls ≠ "java/lang/invoke/VarHandle" ∧ (parseMethodDescriptor yX9_shorter.desc).map (fun d => d.parameters.length) = some 1 := ⟨rfl, hs_X9_shorter⟩
theorem hs_X10_number : yX10_number.cls ≠ "java/lang/invoke/MethodHandle" ∧ yX10_number.cls ≠ "java/lang/invoke/VarHandle" ∧ (parseMethodDescriptor yX10_number.desc).map (fun d => d.parameters.length) = some 0 := by decide +kernel
theorem hv_X10_number : yX10_number.cls = RX10 ∧ yX10_number.cls ≠ "java/lang/invoke/MethodHandle" ∧ yX10_number.cls ≠ "java/lang/invoke/VarHandle" ∧ (parseMethodDescriptor yX10_number.desc).map (fun d => d.parameters.length) = some 0 := ⟨rfl, hs_X10_number⟩
theorem hs_X10_longer : yX10_longer.cls ≠ "java/lang/invoke/MethodHandle" ∧ yX10_longer.cls ≠ "java/lang/invoke/VarHandle" ∧ (parseMethodDescriptor yX10_longer.desc).map (fun d => d.parameters.length) = some 1 := by decide +kernel
theorem hv_X10_longer : yX10_longer.cls = RX10 ∧ yX10_longer.cls ≠ "java/lang/invoke/MethodHandle" ∧ yX10_longer.cls ≠ "java/lang/invoke/VarHandle" ∧ (parseMethodDescriptor yX10_longer.desc).map (fun d => d.parameters.length) = some 1 := ⟨rfl, hs_X10_longer⟩
theorem hs_X10_shorter : yX10_shorter.cls ≠ "java/lang/invoke/MethodHandle" ∧ yX10_shorter.cls ≠ "java/lang/invoke/VarHandle" ∧ (parseMethodDescriptor yX10_shorter.desc).map (fun d => d.parameters.length) = some 1 := by decide +kernel
theorem hv_X10_shorter : yX10_shorter.cls = RX10 ∧ yX10_shorter.cls ≠ "java/lang/invoke/MethodHandle" ∧ yX10_shorter.cls ≠ "java/lang/invoke/VarHandle" ∧ (parseMethodDescriptor yX10_shorter.desc).map (fun d => d.parameters.length) = some 1 := ⟨rfl, hs_X10_shorter⟩
theorem hs_X11_number : yX11_number.cls ≠ "java/lang/invoke/MethodHandle" ∧ yX11_number.cls ≠ "java/lang/invoke/VarHandle" ∧ (parseMethodDescriptor yX11_number.desc).map (fun d => d.parameters.length) = some 0 := by decide +kernel
theorem hv_X11_number : yX11_number.cls = RX11 ∧ yX11_number.cls ≠ "java/lang/invoke/MethodHandle" ∧ yX11_number.cls ≠ "java/lang/invoke/VarHandle" ∧ (parseMethodDescriptor yX11_number.desc).map (fun d => d.parameters.length) = some 0 := ⟨rfl, hs_X11_number⟩
theorem hs_X11_longer : yX11_longer.cls ≠ "java/lang/invoke/MethodHandle" ∧ yX11_longer.cls ≠ "java/lang/invoke/VarHandle" ∧ (parseMethodDescriptor yX11_longer.desc).map (fun d => d.parameters.length) = some 1 := by decide +kernel
theorem hv_X11_longer : yX11_longer.cls = RX11 ∧ yX11_longer.cls ≠ "java/lang/invoke/MethodHandle" ∧ yX11_longer.cls ≠ "java/lang/invoke/VarHandle" ∧ (parseMethodDescriptor yX11_longer.desc).map (fun d => d.parameters.length) = some 1 := ⟨rfl, hs_X11_longer⟩
