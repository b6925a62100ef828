set_option maxRecDepth 100000
abbrev cX1_init : ByteArray := prog_14_method_1_code
def yX1_init : MethodName := ⟨RX1, "<init>", "()V"⟩
def dkwX1_init_0 : List UInt8 := [42, 183, 0, 3, 42, 2, 181, 0, 9, 42, 3, 181, 0, 15, 42, 16, 40, 188, 10, 181, 0, 18, 177]
abbrev dktX1_init_0 : List UInt8 := dkwX1_init_0 ++ []
theorem dksX1_init_0 : cX1_init.data.toList.drop 0 = dktX1_init_0 := by decide +kernel
theorem dX1_init_0 : decode cX1_init 0 = .ok (.aload_n 0, 1) := dk_42 (dk_at dksX1_init_0 0 rfl rfl)
theorem dX1_init_1 : decode cX1_init 1 = .ok (.invokespecial 3, 3) := dk_183 0 3 (dk_at dksX1_init_0 1 rfl rfl)
theorem dX1_init_4 : decode cX1_init 4 = .ok (.aload_n 0, 1) := dk_42 (dk_at dksX1_init_0 4 rfl rfl)
theorem dX1_init_5 : decode cX1_init 5 = .ok (.iconst (-1), 1) := dk_2 (dk_at dksX1_init_0 5 rfl rfl)
theorem dX1_init_6 : decode cX1_init 6 = .ok (.putfield 9, 3) := dk_181 0 9 (dk_at dksX1_init_0 6 rfl rfl)
theorem dX1_init_9 : decode cX1_init 9 = .ok (.aload_n 0, 1) := dk_42 (dk_at dksX1_init_0 9 rfl rfl)
theorem dX1_init_10 : decode cX1_init 10 = .ok (.iconst 0, 1) := dk_3 (dk_at dksX1_init_0 10 rfl rfl)
theorem dX1_init_11 : decode cX1_init 11 = .ok (.putfield 15, 3) := dk_181 0 15 (dk_at dksX1_init_0 11 rfl rfl)
theorem dX1_init_14 : decode cX1_init 14 = .ok (.aload_n 0, 1) := dk_42 (dk_at dksX1_init_0 14 rfl rfl)
theorem dX1_init_15 : decode cX1_init 15 = .ok (.bipush 40, 2) := dk_16 40 (dk_at dksX1_init_0 15 rfl rfl)
theorem dX1_init_17 : decode cX1_init 17 = .ok (.newarray .int, 2) := dk_188_10 (dk_at dksX1_init_0 17 rfl rfl)
theorem dX1_init_19 : decode cX1_init 19 = .ok (.putfield 18, 3) := dk_181 0 18 (dk_at dksX1_init_0 19 rfl rfl)
theorem dX1_init_22 : decode cX1_init 22 = .ok (.return_, 1) := dk_177 (dk_at dksX1_init_0 22 rfl rfl)
abbrev cX1_put : ByteArray := prog_14_method_2_code
def yX1_put : MethodName := ⟨RX1, "put", "(II)V"⟩
def dkwX1_put_1 : List UInt8 := [160, 0, 8, 28, 147, 167, 0, 4, 28, 79, 177]
abbrev dktX1_put_1 : List UInt8 := dkwX1_put_1 ++ []
def dkwX1_put_0 : List UInt8 := [42, 180, 0, 18, 27, 42, 180, 0, 9, 154, 0, 8, 28, 145, 167, 0, 17, 42, 180, 0, 9, 4]
abbrev dktX1_put_0 : List UInt8 := dkwX1_put_0 ++ dktX1_put_1
theorem dksX1_put_0 : cX1_put.data.toList.drop 0 = dktX1_put_0 := by decide +kernel
theorem dksX1_put_1 : cX1_put.data.toList.drop 22 = dktX1_put_1 := dk_seg dksX1_put_0 22 rfl rfl
theorem dX1_put_0 : decode cX1_put 0 = .ok (.aload_n 0, 1) := dk_42 (dk_at dksX1_put_0 0 rfl rfl)
theorem dX1_put_1 : decode cX1_put 1 = .ok (.getfield 18, 3) := dk_180 0 18 (dk_at dksX1_put_0 1 rfl rfl)
theorem dX1_put_4 : decode cX1_put 4 = .ok (.iload_n 1, 1) := dk_27 (dk_at dksX1_put_0 4 rfl rfl)
theorem dX1_put_5 : decode cX1_put 5 = .ok (.aload_n 0, 1) := dk_42 (dk_at dksX1_put_0 5 rfl rfl)
theorem dX1_put_6 : decode cX1_put 6 = .ok (.getfield 9, 3) := dk_180 0 9 (dk_at dksX1_put_0 6 rfl rfl)
theorem dX1_put_9 : decode cX1_put 9 = .ok (.ifCond .ne 8, 3) := dk_154 0 8 (dk_at dksX1_put_0 9 rfl rfl)
theorem dX1_put_12 : decode cX1_put 12 = .ok (.iload_n 2, 1) := dk_28 (dk_at dksX1_put_0 12 rfl rfl)
theorem dX1_put_13 : decode cX1_put 13 = .ok (.i2b, 1) := dk_145 (dk_at dksX1_put_0 13 rfl rfl)
theorem dX1_put_14 : decode cX1_put 14 = .ok (.goto 17, 3) := dk_167 0 17 (dk_at dksX1_put_0 14 rfl rfl)
theorem dX1_put_17 : decode cX1_put 17 = .ok (.aload_n 0, 1) := dk_42 (dk_at dksX1_put_0 17 rfl rfl)
theorem dX1_put_18 : decode cX1_put 18 = .ok (.getfield 9, 3) := dk_180 0 9 (dk_at dksX1_put_0 18 rfl rfl)
theorem dX1_put_21 : decode cX1_put 21 = .ok (.iconst 1, 1) := dk_4 (dk_at dksX1_put_0 21 rfl rfl)
theorem dX1_put_22 : decode cX1_put 22 = .ok (.if_icmp .ne 8, 3) := dk_160 0 8 (dk_at dksX1_put_1 0 rfl rfl)
theorem dX1_put_25 : decode cX1_put 25 = .ok (.iload_n 2, 1) := dk_28 (dk_at dksX1_put_1 3 rfl rfl)
theorem dX1_put_26 : decode cX1_put 26 = .ok (.i2s, 1) := dk_147 (dk_at dksX1_put_1 4 rfl rfl)
theorem dX1_put_27 : decode cX1_put 27 = .ok (.goto 4, 3) := dk_167 0 4 (dk_at dksX1_put_1 5 rfl rfl)
theorem dX1_put_30 : decode cX1_put 30 = .ok (.iload_n 2, 1) := dk_28 (dk_at dksX1_put_1 8 rfl rfl)
theorem dX1_put_31 : decode cX1_put 31 = .ok (.iastore, 1) := dk_79 (dk_at dksX1_put_1 9 rfl rfl)
theorem dX1_put_32 : decode cX1_put 32 = .ok (.return_, 1) := dk_177 (dk_at dksX1_put_1 10 rfl rfl)

abbrev cX2_init : ByteArray := prog_13_method_1_code
def yX2_init : MethodName := ⟨RX2, "<init>", "([BI)V"⟩
def dkwX2_init_3 : List UInt8 := [83, 89, 8, 18, 43, 83, 181, 0, 45, 42, 43, 181, 0, 47, 42, 28, 181, 0, 51, 177]
abbrev dktX2_init_3 : List UInt8 := dkwX2_init_3 ++ []
def dkwX2_init_2 : List UInt8 := [89, 3, 18, 33, 83, 89, 4, 18, 35, 83, 89, 5, 18, 37, 83, 89, 6, 18, 39, 83, 89, 7, 18, 41]
abbrev dktX2_init_2 : List UInt8 := dkwX2_init_2 ++ dktX2_init_3
def dkwX2_init_1 : List UInt8 := [89, 3, 18, 23, 83, 89, 4, 18, 25, 83, 89, 5, 18, 27, 83, 181, 0, 29, 42, 16, 6, 189, 0, 21]
abbrev dktX2_init_1 : List UInt8 := dkwX2_init_1 ++ dktX2_init_2
def dkwX2_init_0 : List UInt8 := [42, 183, 0, 3, 42, 3, 181, 0, 9, 42, 3, 181, 0, 15, 42, 3, 181, 0, 18, 42, 6, 189, 0, 21]
abbrev dktX2_init_0 : List UInt8 := dkwX2_init_0 ++ dktX2_init_1
theorem dksX2_init_0 : cX2_init.data.toList.drop 0 = dktX2_init_0 := by decide +kernel
theorem dksX2_init_1 : cX2_init.data.toList.drop 24 = dktX2_init_1 := dk_seg dksX2_init_0 24 rfl rfl
theorem dksX2_init_2 : cX2_init.data.toList.drop 48 = dktX2_init_2 := dk_seg dksX2_init_1 24 rfl rfl
theorem dksX2_init_3 : cX2_init.data.toList.drop 72 = dktX2_init_3 := dk_seg dksX2_init_2 24 rfl rfl
theorem dX2_init_0 : decode cX2_init 0 = .ok (.aload_n 0, 1) := dk_42 (dk_at dksX2_init_0 0 rfl rfl)
theorem dX2_init_1 : decode cX2_init 1 = .ok (.invokespecial 3, 3) := dk_183 0 3 (dk_at dksX2_init_0 1 rfl rfl)
theorem dX2_init_4 : decode cX2_init 4 = .ok (.aload_n 0, 1) := dk_42 (dk_at dksX2_init_0 4 rfl rfl)
theorem dX2_init_5 : decode cX2_init 5 = .ok (.iconst 0, 1) := dk_3 (dk_at dksX2_init_0 5 rfl rfl)
theorem dX2_init_6 : decode cX2_init 6 = .ok (.putfield 9, 3) := dk_181 0 9 (dk_at dksX2_init_0 6 rfl rfl)
theorem dX2_init_9 : decode cX2_init 9 = .ok (.aload_n 0, 1) := dk_42 (dk_at dksX2_init_0 9 rfl rfl)
theorem dX2_init_10 : decode cX2_init 10 = .ok (.iconst 0, 1) := dk_3 (dk_at dksX2_init_0 10 rfl rfl)
theorem dX2_init_11 : decode cX2_init 11 = .ok (.putfield 15, 3) := dk_181 0 15 (dk_at dksX2_init_0 11 rfl rfl)
theorem dX2_init_14 : decode cX2_init 14 = .ok (.aload_n 0, 1) := dk_42 (dk_at dksX2_init_0 14 rfl rfl)
theorem dX2_init_15 : decode cX2_init 15 = .ok (.iconst 0, 1) := dk_3 (dk_at dksX2_init_0 15 rfl rfl)
theorem dX2_init_16 : decode cX2_init 16 = .ok (.putfield 18, 3) := dk_181 0 18 (dk_at dksX2_init_0 16 rfl rfl)
theorem dX2_init_19 : decode cX2_init 19 = .ok (.aload_n 0, 1) := dk_42 (dk_at dksX2_init_0 19 rfl rfl)
theorem dX2_init_20 : decode cX2_init 20 = .ok (.iconst 3, 1) := dk_6 (dk_at dksX2_init_0 20 rfl rfl)
theorem dX2_init_21 : decode cX2_init 21 = .ok (.anewarray 21, 3) := dk_189 0 21 (dk_at dksX2_init_0 21 rfl rfl)
theorem dX2_init_24 : decode cX2_init 24 = .ok (.dup, 1) := dk_89 (dk_at dksX2_init_1 0 rfl rfl)
theorem dX2_init_25 : decode cX2_init 25 = .ok (.iconst 0, 1) := dk_3 (dk_at dksX2_init_1 1 rfl rfl)
theorem dX2_init_26 : decode cX2_init 26 = .ok (.ldc 23, 2) := dk_18 23 (dk_at dksX2_init_1 2 rfl rfl)
theorem dX2_init_28 : decode cX2_init 28 = .ok (.aastore, 1) := dk_83 (dk_at dksX2_init_1 4 rfl rfl)
theorem dX2_init_29 : decode cX2_init 29 = .ok (.dup, 1) := dk_89 (dk_at dksX2_init_1 5 rfl rfl)
theorem dX2_init_30 : decode cX2_init 30 = .ok (.iconst 1, 1) := dk_4 (dk_at dksX2_init_1 6 rfl rfl)
theorem dX2_init_31 : decode cX2_init 31 = .ok (.ldc 25, 2) := dk_18 25 (dk_at dksX2_init_1 7 rfl rfl)
theorem dX2_init_33 : decode cX2_init 33 = .ok (.aastore, 1) := dk_83 (dk_at dksX2_init_1 9 rfl rfl)
theorem dX2_init_34 : decode cX2_init 34 = .ok (.dup, 1) := dk_89 (dk_at dksX2_init_1 10 rfl rfl)
theorem dX2_init_35 : decode cX2_init 35 = .ok (.iconst 2, 1) := dk_5 (dk_at dksX2_init_1 11 rfl rfl)
theorem dX2_init_36 : decode cX2_init 36 = .ok (.ldc 27, 2) := dk_18 27 (dk_at dksX2_init_1 12 rfl rfl)
theorem dX2_init_38 : decode cX2_init 38 = .ok (.aastore, 1) := dk_83 (dk_at dksX2_init_1 14 rfl rfl)
theorem dX2_init_39 : decode cX2_init 39 = .ok (.putfield 29, 3) := dk_181 0 29 (dk_at dksX2_init_1 15 rfl rfl)
theorem dX2_init_42 : decode cX2_init 42 = .ok (.aload_n 0, 1) := dk_42 (dk_at dksX2_init_1 18 rfl rfl)
theorem dX2_init_43 : decode cX2_init 43 = .ok (.bipush 6, 2) := dk_16 6 (dk_at dksX2_init_1 19 rfl rfl)
theorem dX2_init_45 : decode cX2_init 45 = .ok (.anewarray 21, 3) := dk_189 0 21 (dk_at dksX2_init_1 21 rfl rfl)
theorem dX2_init_48 : decode cX2_init 48 = .ok (.dup, 1) := dk_89 (dk_at dksX2_init_2 0 rfl rfl)
theorem dX2_init_49 : decode cX2_init 49 = .ok (.iconst 0, 1) := dk_3 (dk_at dksX2_init_2 1 rfl rfl)
theorem dX2_init_50 : decode cX2_init 50 = .ok (.ldc 33, 2) := dk_18 33 (dk_at dksX2_init_2 2 rfl rfl)
theorem dX2_init_52 : decode cX2_init 52 = .ok (.aastore, 1) := dk_83 (dk_at dksX2_init_2 4 rfl rfl)
theorem dX2_init_53 : decode cX2_init 53 = .ok (.dup, 1) := dk_89 (dk_at dksX2_init_2 5 rfl rfl)
theorem dX2_init_54 : decode cX2_init 54 = .ok (.iconst 1, 1) := dk_4 (dk_at dksX2_init_2 6 rfl rfl)
theorem dX2_init_55 : decode cX2_init 55 = .ok (.ldc 35, 2) := dk_18 35 (dk_at dksX2_init_2 7 rfl rfl)
theorem dX2_init_57 : decode cX2_init 57 = .ok (.aastore, 1) := dk_83 (dk_at dksX2_init_2 9 rfl rfl)
theorem dX2_init_58 : decode cX2_init 58 = .ok (.dup, 1) := dk_89 (dk_at dksX2_init_2 10 rfl rfl)
theorem dX2_init_59 : decode cX2_init 59 = .ok (.iconst 2, 1) := dk_5 (dk_at dksX2_init_2 11 rfl rfl)
theorem dX2_init_60 : decode cX2_init 60 = .ok (.ldc 37, 2) := dk_18 37 (dk_at dksX2_init_2 12 rfl rfl)
theorem dX2_init_62 : decode cX2_init 62 = .ok (.aastore, 1) := dk_83 (dk_at dksX2_init_2 14 rfl rfl)
theorem dX2_init_63 : decode cX2_init 63 = .ok (.dup, 1) := dk_89 (dk_at dksX2_init_2 15 rfl rfl)
theorem dX2_init_64 : decode cX2_init 64 = .ok (.iconst 3, 1) := dk_6 (dk_at dksX2_init_2 16 rfl rfl)
theorem dX2_init_65 : decode cX2_init 65 = .ok (.ldc 39, 2) := dk_18 39 (dk_at dksX2_init_2 17 rfl rfl)
theorem dX2_init_67 : decode cX2_init 67 = .ok (.aastore, 1) := dk_83 (dk_at dksX2_init_2 19 rfl rfl)
theorem dX2_init_68 : decode cX2_init 68 = .ok (.dup, 1) := dk_89 (dk_at dksX2_init_2 20 rfl rfl)
theorem dX2_init_69 : decode cX2_init 69 = .ok (.iconst 4, 1) := dk_7 (dk_at dksX2_init_2 21 rfl rfl)
theorem dX2_init_70 : decode cX2_init 70 = .ok (.ldc 41, 2) := dk_18 41 (dk_at dksX2_init_2 22 rfl rfl)
theorem dX2_init_72 : decode cX2_init 72 = .ok (.aastore, 1) := dk_83 (dk_at dksX2_init_3 0 rfl rfl)
theorem dX2_init_73 : decode cX2_init 73 = .ok (.dup, 1) := dk_89 (dk_at dksX2_init_3 1 rfl rfl)
theorem dX2_init_74 : decode cX2_init 74 = .ok (.iconst 5, 1) := dk_8 (dk_at dksX2_init_3 2 rfl rfl)
theorem dX2_init_75 : decode cX2_init 75 = .ok (.ldc 43, 2) := dk_18 43 (dk_at dksX2_init_3 3 rfl rfl)
theorem dX2_init_77 : decode cX2_init 77 = .ok (.aastore, 1) := dk_83 (dk_at dksX2_init_3 5 rfl rfl)
theorem dX2_init_78 : decode cX2_init 78 = .ok (.putfield 45, 3) := dk_181 0 45 (dk_at dksX2_init_3 6 rfl rfl)
theorem dX2_init_81 : decode cX2_init 81 = .ok (.aload_n 0, 1) := dk_42 (dk_at dksX2_init_3 9 rfl rfl)
theorem dX2_init_82 : decode cX2_init 82 = .ok (.aload_n 1, 1) := dk_43 (dk_at dksX2_init_3 10 rfl rfl)
theorem dX2_init_83 : decode cX2_init 83 = .ok (.putfield 47, 3) := dk_181 0 47 (dk_at dksX2_init_3 11 rfl rfl)
theorem dX2_init_86 : decode cX2_init 86 = .ok (.aload_n 0, 1) := dk_42 (dk_at dksX2_init_3 14 rfl rfl)
theorem dX2_init_87 : decode cX2_init 87 = .ok (.iload_n 2, 1) := dk_28 (dk_at dksX2_init_3 15 rfl rfl)
theorem dX2_init_88 : decode cX2_init 88 = .ok (.putfield 51, 3) := dk_181 0 51 (dk_at dksX2_init_3 16 rfl rfl)
theorem dX2_init_91 : decode cX2_init 91 = .ok (.return_, 1) := dk_177 (dk_at dksX2_init_3 19 rfl rfl)
abbrev cX2_parts : ByteArray := prog_13_method_14_code
def yX2_parts : MethodName := ⟨RX2, "parts", "()[LNameThrownBack$Node;"⟩
def dkwX2_parts_4 : List UInt8 := [42, 180, 0, 67, 2, 160, 0, 11, 42, 180, 0, 70, 2, 159, 0, 8, 42, 182, 0, 99, 191, 43, 176]
abbrev dktX2_parts_4 : List UInt8 := dkwX2_parts_4 ++ []
def dkwX2_parts_3 : List UInt8 := [132, 2, 1, 167, 255, 197, 42, 180, 0, 9, 42, 180, 0, 51, 161, 0, 26, 42, 180, 0, 63, 199, 0, 19]
abbrev dktX2_parts_3 : List UInt8 := dkwX2_parts_3 ++ dktX2_parts_4
def dkwX2_parts_2 : List UInt8 := [42, 182, 0, 128, 83, 42, 180, 0, 70, 16, 59, 159, 0, 8, 42, 182, 0, 99, 191, 42, 182, 0, 113]
abbrev dktX2_parts_2 : List UInt8 := dkwX2_parts_2 ++ dktX2_parts_3
def dkwX2_parts_1 : List UInt8 := [42, 42, 180, 0, 29, 28, 50, 182, 0, 136, 154, 0, 8, 42, 182, 0, 99, 191, 42, 182, 0, 113, 43, 28]
abbrev dktX2_parts_1 : List UInt8 := dkwX2_parts_1 ++ dktX2_parts_2
def dkwX2_parts_0 : List UInt8 := [42, 180, 0, 29, 190, 189, 0, 165, 76, 42, 182, 0, 113, 3, 61, 28, 42, 180, 0, 29, 190, 162, 0, 56]
abbrev dktX2_parts_0 : List UInt8 := dkwX2_parts_0 ++ dktX2_parts_1
theorem dksX2_parts_0 : cX2_parts.data.toList.drop 0 = dktX2_parts_0 := by decide +kernel
theorem dksX2_parts_1 : cX2_parts.data.toList.drop 24 = dktX2_parts_1 := dk_seg dksX2_parts_0 24 rfl rfl
theorem dksX2_parts_2 : cX2_parts.data.toList.drop 48 = dktX2_parts_2 := dk_seg dksX2_parts_1 24 rfl rfl
theorem dksX2_parts_3 : cX2_parts.data.toList.drop 71 = dktX2_parts_3 := dk_seg dksX2_parts_2 23 rfl rfl
theorem dksX2_parts_4 : cX2_parts.data.toList.drop 95 = dktX2_parts_4 := dk_seg dksX2_parts_3 24 rfl rfl
theorem dX2_parts_0 : decode cX2_parts 0 = .ok (.aload_n 0, 1) := dk_42 (dk_at dksX2_parts_0 0 rfl rfl)
theorem dX2_parts_1 : decode cX2_parts 1 = .ok (.getfield 29, 3) := dk_180 0 29 (dk_at dksX2_parts_0 1 rfl rfl)
theorem dX2_parts_4 : decode cX2_parts 4 = .ok (.arraylength, 1) := dk_190 (dk_at dksX2_parts_0 4 rfl rfl)
theorem dX2_parts_5 : decode cX2_parts 5 = .ok (.anewarray 165, 3) := dk_189 0 165 (dk_at dksX2_parts_0 5 rfl rfl)
theorem dX2_parts_8 : decode cX2_parts 8 = .ok (.astore_n 1, 1) := dk_76 (dk_at dksX2_parts_0 8 rfl rfl)
theorem dX2_parts_9 : decode cX2_parts 9 = .ok (.aload_n 0, 1) := dk_42 (dk_at dksX2_parts_0 9 rfl rfl)
theorem dX2_parts_10 : decode cX2_parts 10 = .ok (.invokevirtual 113, 3) := dk_182 0 113 (dk_at dksX2_parts_0 10 rfl rfl)
theorem dX2_parts_13 : decode cX2_parts 13 = .ok (.iconst 0, 1) := dk_3 (dk_at dksX2_parts_0 13 rfl rfl)
theorem dX2_parts_14 : decode cX2_parts 14 = .ok (.istore_n 2, 1) := dk_61 (dk_at dksX2_parts_0 14 rfl rfl)
theorem dX2_parts_15 : decode cX2_parts 15 = .ok (.iload_n 2, 1) := dk_28 (dk_at dksX2_parts_0 15 rfl rfl)
theorem dX2_parts_16 : decode cX2_parts 16 = .ok (.aload_n 0, 1) := dk_42 (dk_at dksX2_parts_0 16 rfl rfl)
theorem dX2_parts_17 : decode cX2_parts 17 = .ok (.getfield 29, 3) := dk_180 0 29 (dk_at dksX2_parts_0 17 rfl rfl)
theorem dX2_parts_20 : decode cX2_parts 20 = .ok (.arraylength, 1) := dk_190 (dk_at dksX2_parts_0 20 rfl rfl)
theorem dX2_parts_21 : decode cX2_parts 21 = .ok (.if_icmp .ge 56, 3) := dk_162 0 56 (dk_at dksX2_parts_0 21 rfl rfl)
theorem dX2_parts_24 : decode cX2_parts 24 = .ok (.aload_n 0, 1) := dk_42 (dk_at dksX2_parts_1 0 rfl rfl)
theorem dX2_parts_25 : decode cX2_parts 25 = .ok (.aload_n 0, 1) := dk_42 (dk_at dksX2_parts_1 1 rfl rfl)
theorem dX2_parts_26 : decode cX2_parts 26 = .ok (.getfield 29, 3) := dk_180 0 29 (dk_at dksX2_parts_1 2 rfl rfl)
theorem dX2_parts_29 : decode cX2_parts 29 = .ok (.iload_n 2, 1) := dk_28 (dk_at dksX2_parts_1 5 rfl rfl)
theorem dX2_parts_30 : decode cX2_parts 30 = .ok (.aaload, 1) := dk_50 (dk_at dksX2_parts_1 6 rfl rfl)
theorem dX2_parts_31 : decode cX2_parts 31 = .ok (.invokevirtual 136, 3) := dk_182 0 136 (dk_at dksX2_parts_1 7 rfl rfl)
theorem dX2_parts_34 : decode cX2_parts 34 = .ok (.ifCond .ne 8, 3) := dk_154 0 8 (dk_at dksX2_parts_1 10 rfl rfl)
theorem dX2_parts_37 : decode cX2_parts 37 = .ok (.aload_n 0, 1) := dk_42 (dk_at dksX2_parts_1 13 rfl rfl)
theorem dX2_parts_38 : decode cX2_parts 38 = .ok (.invokevirtual 99, 3) := dk_182 0 99 (dk_at dksX2_parts_1 14 rfl rfl)
theorem dX2_parts_41 : decode cX2_parts 41 = .ok (.athrow, 1) := dk_191 (dk_at dksX2_parts_1 17 rfl rfl)
theorem dX2_parts_42 : decode cX2_parts 42 = .ok (.aload_n 0, 1) := dk_42 (dk_at dksX2_parts_1 18 rfl rfl)
theorem dX2_parts_43 : decode cX2_parts 43 = .ok (.invokevirtual 113, 3) := dk_182 0 113 (dk_at dksX2_parts_1 19 rfl rfl)
theorem dX2_parts_46 : decode cX2_parts 46 = .ok (.aload_n 1, 1) := dk_43 (dk_at dksX2_parts_1 22 rfl rfl)
theorem dX2_parts_47 : decode cX2_parts 47 = .ok (.iload_n 2, 1) := dk_28 (dk_at dksX2_parts_1 23 rfl rfl)
theorem dX2_parts_48 : decode cX2_parts 48 = .ok (.aload_n 0, 1) := dk_42 (dk_at dksX2_parts_2 0 rfl rfl)
theorem dX2_parts_49 : decode cX2_parts 49 = .ok (.invokevirtual 128, 3) := dk_182 0 128 (dk_at dksX2_parts_2 1 rfl rfl)
theorem dX2_parts_52 : decode cX2_parts 52 = .ok (.aastore, 1) := dk_83 (dk_at dksX2_parts_2 4 rfl rfl)
theorem dX2_parts_53 : decode cX2_parts 53 = .ok (.aload_n 0, 1) := dk_42 (dk_at dksX2_parts_2 5 rfl rfl)
theorem dX2_parts_54 : decode cX2_parts 54 = .ok (.getfield 70, 3) := dk_180 0 70 (dk_at dksX2_parts_2 6 rfl rfl)
theorem dX2_parts_57 : decode cX2_parts 57 = .ok (.bipush 59, 2) := dk_16 59 (dk_at dksX2_parts_2 9 rfl rfl)
theorem dX2_parts_59 : decode cX2_parts 59 = .ok (.if_icmp .eq 8, 3) := dk_159 0 8 (dk_at dksX2_parts_2 11 rfl rfl)
theorem dX2_parts_62 : decode cX2_parts 62 = .ok (.aload_n 0, 1) := dk_42 (dk_at dksX2_parts_2 14 rfl rfl)
theorem dX2_parts_63 : decode cX2_parts 63 = .ok (.invokevirtual 99, 3) := dk_182 0 99 (dk_at dksX2_parts_2 15 rfl rfl)
theorem dX2_parts_66 : decode cX2_parts 66 = .ok (.athrow, 1) := dk_191 (dk_at dksX2_parts_2 18 rfl rfl)
theorem dX2_parts_67 : decode cX2_parts 67 = .ok (.aload_n 0, 1) := dk_42 (dk_at dksX2_parts_2 19 rfl rfl)
theorem dX2_parts_68 : decode cX2_parts 68 = .ok (.invokevirtual 113, 3) := dk_182 0 113 (dk_at dksX2_parts_2 20 rfl rfl)
theorem dX2_parts_71 : decode cX2_parts 71 = .ok (.iinc 2 1, 3) := dk_132 2 1 (dk_at dksX2_parts_3 0 rfl rfl)
theorem dX2_parts_74 : decode cX2_parts 74 = .ok (.goto (-59), 3) := dk_167 255 197 (dk_at dksX2_parts_3 3 rfl rfl)
theorem dX2_parts_77 : decode cX2_parts 77 = .ok (.aload_n 0, 1) := dk_42 (dk_at dksX2_parts_3 6 rfl rfl)
theorem dX2_parts_78 : decode cX2_parts 78 = .ok (.getfield 9, 3) := dk_180 0 9 (dk_at dksX2_parts_3 7 rfl rfl)
theorem dX2_parts_81 : decode cX2_parts 81 = .ok (.aload_n 0, 1) := dk_42 (dk_at dksX2_parts_3 10 rfl rfl)
theorem dX2_parts_82 : decode cX2_parts 82 = .ok (.getfield 51, 3) := dk_180 0 51 (dk_at dksX2_parts_3 11 rfl rfl)
theorem dX2_parts_85 : decode cX2_parts 85 = .ok (.if_icmp .lt 26, 3) := dk_161 0 26 (dk_at dksX2_parts_3 14 rfl rfl)
theorem dX2_parts_88 : decode cX2_parts 88 = .ok (.aload_n 0, 1) := dk_42 (dk_at dksX2_parts_3 17 rfl rfl)
theorem dX2_parts_89 : decode cX2_parts 89 = .ok (.getfield 63, 3) := dk_180 0 63 (dk_at dksX2_parts_3 18 rfl rfl)
theorem dX2_parts_92 : decode cX2_parts 92 = .ok (.ifnonnull 19, 3) := dk_199 0 19 (dk_at dksX2_parts_3 21 rfl rfl)
theorem dX2_parts_95 : decode cX2_parts 95 = .ok (.aload_n 0, 1) := dk_42 (dk_at dksX2_parts_4 0 rfl rfl)
theorem dX2_parts_96 : decode cX2_parts 96 = .ok (.getfield 67, 3) := dk_180 0 67 (dk_at dksX2_parts_4 1 rfl rfl)
theorem dX2_parts_99 : decode cX2_parts 99 = .ok (.iconst (-1), 1) := dk_2 (dk_at dksX2_parts_4 4 rfl rfl)
theorem dX2_parts_100 : decode cX2_parts 100 = .ok (.if_icmp .ne 11, 3) := dk_160 0 11 (dk_at dksX2_parts_4 5 rfl rfl)
theorem dX2_parts_103 : decode cX2_parts 103 = .ok (.aload_n 0, 1) := dk_42 (dk_at dksX2_parts_4 8 rfl rfl)
theorem dX2_parts_104 : decode cX2_parts 104 = .ok (.getfield 70, 3) := dk_180 0 70 (dk_at dksX2_parts_4 9 rfl rfl)
theorem dX2_parts_107 : decode cX2_parts 107 = .ok (.iconst (-1), 1) := dk_2 (dk_at dksX2_parts_4 12 rfl rfl)
theorem dX2_parts_108 : decode cX2_parts 108 = .ok (.if_icmp .eq 8, 3) := dk_159 0 8 (dk_at dksX2_parts_4 13 rfl rfl)
theorem dX2_parts_111 : decode cX2_parts 111 = .ok (.aload_n 0, 1) := dk_42 (dk_at dksX2_parts_4 16 rfl rfl)
theorem dX2_parts_112 : decode cX2_parts 112 = .ok (.invokevirtual 99, 3) := dk_182 0 99 (dk_at dksX2_parts_4 17 rfl rfl)
theorem dX2_parts_115 : decode cX2_parts 115 = .ok (.athrow, 1) := dk_191 (dk_at dksX2_parts_4 20 rfl rfl)
theorem dX2_parts_116 : decode cX2_parts 116 = .ok (.aload_n 1, 1) := dk_43 (dk_at dksX2_parts_4 21 rfl rfl)
theorem dX2_parts_117 : decode cX2_parts 117 = .ok (.areturn, 1) := dk_176 (dk_at dksX2_parts_4 22 rfl rfl)
abbrev cX2_next : ByteArray := prog_13_method_4_code
def yX2_next : MethodName := ⟨RX2, "next", "()V"⟩
def dkwX2_next_12 : List UInt8 := [180, 0, 9, 4, 96, 181, 0, 9, 177]
abbrev dktX2_next_12 : List UInt8 := dkwX2_next_12 ++ []
def dkwX2_next_11 : List UInt8 := [181, 0, 70, 18, 103, 42, 180, 0, 70, 182, 0, 105, 156, 0, 8, 42, 182, 0, 99, 191, 42, 89]
abbrev dktX2_next_11 : List UInt8 := dkwX2_next_11 ++ dktX2_next_12
def dkwX2_next_10 : List UInt8 := [182, 0, 99, 191, 167, 0, 49, 42, 180, 0, 9, 42, 180, 0, 51, 162, 0, 38, 42, 42, 182, 0, 59]
abbrev dktX2_next_10 : List UInt8 := dkwX2_next_10 ++ dktX2_next_11
def dkwX2_next_9 : List UInt8 := [132, 1, 1, 42, 89, 180, 0, 9, 4, 96, 181, 0, 9, 167, 255, 202, 27, 7, 164, 0, 8, 42]
abbrev dktX2_next_9 : List UInt8 := dkwX2_next_9 ++ dktX2_next_10
def dkwX2_next_8 : List UInt8 := [162, 0, 22, 42, 16, 10, 42, 180, 0, 67, 104, 42, 182, 0, 59, 96, 16, 48, 100, 181, 0, 67]
abbrev dktX2_next_8 : List UInt8 := dkwX2_next_8 ++ dktX2_next_9
def dkwX2_next_7 : List UInt8 := [181, 0, 67, 42, 182, 0, 59, 133, 20, 0, 95, 20, 0, 97, 184, 0, 77, 153, 0, 43, 27, 7]
abbrev dktX2_next_7 : List UInt8 := dkwX2_next_7 ++ dktX2_next_8
def dkwX2_next_6 : List UInt8 := [167, 0, 143, 42, 182, 0, 59, 133, 20, 0, 95, 20, 0, 97, 184, 0, 77, 153, 0, 80, 3, 60, 42, 3]
abbrev dktX2_next_6 : List UInt8 := dkwX2_next_6 ++ dktX2_next_7
def dkwX2_next_5 : List UInt8 := [87, 42, 89, 180, 0, 9, 4, 96, 181, 0, 9, 167, 255, 210, 42, 43, 182, 0, 91, 181, 0, 63]
abbrev dktX2_next_5 : List UInt8 := dkwX2_next_5 ++ dktX2_next_6
def dkwX2_next_4 : List UInt8 := [184, 0, 77, 153, 0, 35, 43, 182, 0, 84, 16, 9, 162, 0, 13, 43, 42, 182, 0, 59, 146, 182, 0, 87]
abbrev dktX2_next_4 : List UInt8 := dkwX2_next_4 ++ dktX2_next_5
def dkwX2_next_3 : List UInt8 := [153, 0, 71, 187, 0, 81, 89, 183, 0, 83, 76, 42, 182, 0, 59, 133, 20, 0, 73, 20, 0, 75]
abbrev dktX2_next_3 : List UInt8 := dkwX2_next_3 ++ dktX2_next_4
def dkwX2_next_2 : List UInt8 := [181, 0, 67, 42, 2, 181, 0, 70, 42, 182, 0, 59, 133, 20, 0, 73, 20, 0, 75, 184, 0, 77]
abbrev dktX2_next_2 : List UInt8 := dkwX2_next_2 ++ dktX2_next_3
def dkwX2_next_1 : List UInt8 := [96, 181, 0, 9, 167, 255, 228, 42, 42, 180, 0, 9, 181, 0, 15, 42, 1, 181, 0, 63, 42, 2]
abbrev dktX2_next_1 : List UInt8 := dkwX2_next_1 ++ dktX2_next_2
def dkwX2_next_0 : List UInt8 := [42, 182, 0, 59, 16, 32, 159, 0, 12, 42, 182, 0, 59, 16, 10, 160, 0, 16, 42, 89, 180, 0, 9, 4]
abbrev dktX2_next_0 : List UInt8 := dkwX2_next_0 ++ dktX2_next_1
theorem dksX2_next_0 : cX2_next.data.toList.drop 0 = dktX2_next_0 := by decide +kernel
theorem dksX2_next_1 : cX2_next.data.toList.drop 24 = dktX2_next_1 := dk_seg dksX2_next_0 24 rfl rfl
theorem dksX2_next_2 : cX2_next.data.toList.drop 46 = dktX2_next_2 := dk_seg dksX2_next_1 22 rfl rfl
theorem dksX2_next_3 : cX2_next.data.toList.drop 68 = dktX2_next_3 := dk_seg dksX2_next_2 22 rfl rfl
theorem dksX2_next_4 : cX2_next.data.toList.drop 90 = dktX2_next_4 := dk_seg dksX2_next_3 22 rfl rfl
theorem dksX2_next_5 : cX2_next.data.toList.drop 114 = dktX2_next_5 := dk_seg dksX2_next_4 24 rfl rfl
theorem dksX2_next_6 : cX2_next.data.toList.drop 136 = dktX2_next_6 := dk_seg dksX2_next_5 22 rfl rfl
theorem dksX2_next_7 : cX2_next.data.toList.drop 160 = dktX2_next_7 := dk_seg dksX2_next_6 24 rfl rfl
theorem dksX2_next_8 : cX2_next.data.toList.drop 182 = dktX2_next_8 := dk_seg dksX2_next_7 22 rfl rfl
theorem dksX2_next_9 : cX2_next.data.toList.drop 204 = dktX2_next_9 := dk_seg dksX2_next_8 22 rfl rfl
theorem dksX2_next_10 : cX2_next.data.toList.drop 226 = dktX2_next_10 := dk_seg dksX2_next_9 22 rfl rfl
theorem dksX2_next_11 : cX2_next.data.toList.drop 249 = dktX2_next_11 := dk_seg dksX2_next_10 23 rfl rfl
theorem dksX2_next_12 : cX2_next.data.toList.drop 271 = dktX2_next_12 := dk_seg dksX2_next_11 22 rfl rfl
theorem dX2_next_0 : decode cX2_next 0 = .ok (.aload_n 0, 1) := dk_42 (dk_at dksX2_next_0 0 rfl rfl)
theorem dX2_next_1 : decode cX2_next 1 = .ok (.invokevirtual 59, 3) := dk_182 0 59 (dk_at dksX2_next_0 1 rfl rfl)
theorem dX2_next_4 : decode cX2_next 4 = .ok (.bipush 32, 2) := dk_16 32 (dk_at dksX2_next_0 4 rfl rfl)
theorem dX2_next_6 : decode cX2_next 6 = .ok (.if_icmp .eq 12, 3) := dk_159 0 12 (dk_at dksX2_next_0 6 rfl rfl)
theorem dX2_next_9 : decode cX2_next 9 = .ok (.aload_n 0, 1) := dk_42 (dk_at dksX2_next_0 9 rfl rfl)
theorem dX2_next_10 : decode cX2_next 10 = .ok (.invokevirtual 59, 3) := dk_182 0 59 (dk_at dksX2_next_0 10 rfl rfl)
theorem dX2_next_13 : decode cX2_next 13 = .ok (.bipush 10, 2) := dk_16 10 (dk_at dksX2_next_0 13 rfl rfl)
theorem dX2_next_15 : decode cX2_next 15 = .ok (.if_icmp .ne 16, 3) := dk_160 0 16 (dk_at dksX2_next_0 15 rfl rfl)
theorem dX2_next_18 : decode cX2_next 18 = .ok (.aload_n 0, 1) := dk_42 (dk_at dksX2_next_0 18 rfl rfl)
theorem dX2_next_19 : decode cX2_next 19 = .ok (.dup, 1) := dk_89 (dk_at dksX2_next_0 19 rfl rfl)
theorem dX2_next_20 : decode cX2_next 20 = .ok (.getfield 9, 3) := dk_180 0 9 (dk_at dksX2_next_0 20 rfl rfl)
theorem dX2_next_23 : decode cX2_next 23 = .ok (.iconst 1, 1) := dk_4 (dk_at dksX2_next_0 23 rfl rfl)
theorem dX2_next_24 : decode cX2_next 24 = .ok (.iadd, 1) := dk_96 (dk_at dksX2_next_1 0 rfl rfl)
theorem dX2_next_25 : decode cX2_next 25 = .ok (.putfield 9, 3) := dk_181 0 9 (dk_at dksX2_next_1 1 rfl rfl)
theorem dX2_next_28 : decode cX2_next 28 = .ok (.goto (-28), 3) := dk_167 255 228 (dk_at dksX2_next_1 4 rfl rfl)
theorem dX2_next_31 : decode cX2_next 31 = .ok (.aload_n 0, 1) := dk_42 (dk_at dksX2_next_1 7 rfl rfl)
theorem dX2_next_32 : decode cX2_next 32 = .ok (.aload_n 0, 1) := dk_42 (dk_at dksX2_next_1 8 rfl rfl)
theorem dX2_next_33 : decode cX2_next 33 = .ok (.getfield 9, 3) := dk_180 0 9 (dk_at dksX2_next_1 9 rfl rfl)
theorem dX2_next_36 : decode cX2_next 36 = .ok (.putfield 15, 3) := dk_181 0 15 (dk_at dksX2_next_1 12 rfl rfl)
theorem dX2_next_39 : decode cX2_next 39 = .ok (.aload_n 0, 1) := dk_42 (dk_at dksX2_next_1 15 rfl rfl)
theorem dX2_next_40 : decode cX2_next 40 = .ok (.aconst_null, 1) := dk_1 (dk_at dksX2_next_1 16 rfl rfl)
theorem dX2_next_41 : decode cX2_next 41 = .ok (.putfield 63, 3) := dk_181 0 63 (dk_at dksX2_next_1 17 rfl rfl)
theorem dX2_next_44 : decode cX2_next 44 = .ok (.aload_n 0, 1) := dk_42 (dk_at dksX2_next_1 20 rfl rfl)
theorem dX2_next_45 : decode cX2_next 45 = .ok (.iconst (-1), 1) := dk_2 (dk_at dksX2_next_1 21 rfl rfl)
theorem dX2_next_46 : decode cX2_next 46 = .ok (.putfield 67, 3) := dk_181 0 67 (dk_at dksX2_next_2 0 rfl rfl)
theorem dX2_next_49 : decode cX2_next 49 = .ok (.aload_n 0, 1) := dk_42 (dk_at dksX2_next_2 3 rfl rfl)
theorem dX2_next_50 : decode cX2_next 50 = .ok (.iconst (-1), 1) := dk_2 (dk_at dksX2_next_2 4 rfl rfl)
theorem dX2_next_51 : decode cX2_next 51 = .ok (.putfield 70, 3) := dk_181 0 70 (dk_at dksX2_next_2 5 rfl rfl)
theorem dX2_next_54 : decode cX2_next 54 = .ok (.aload_n 0, 1) := dk_42 (dk_at dksX2_next_2 8 rfl rfl)
theorem dX2_next_55 : decode cX2_next 55 = .ok (.invokevirtual 59, 3) := dk_182 0 59 (dk_at dksX2_next_2 9 rfl rfl)
theorem dX2_next_58 : decode cX2_next 58 = .ok (.i2l, 1) := dk_133 (dk_at dksX2_next_2 12 rfl rfl)
theorem dX2_next_59 : decode cX2_next 59 = .ok (.ldc2_w 73, 3) := dk_20 0 73 (dk_at dksX2_next_2 13 rfl rfl)
theorem dX2_next_62 : decode cX2_next 62 = .ok (.ldc2_w 75, 3) := dk_20 0 75 (dk_at dksX2_next_2 16 rfl rfl)
theorem dX2_next_65 : decode cX2_next 65 = .ok (.invokestatic 77, 3) := dk_184 0 77 (dk_at dksX2_next_2 19 rfl rfl)
theorem dX2_next_68 : decode cX2_next 68 = .ok (.ifCond .eq 71, 3) := dk_153 0 71 (dk_at dksX2_next_3 0 rfl rfl)
theorem dX2_next_71 : decode cX2_next 71 = .ok (.new 81, 3) := dk_187 0 81 (dk_at dksX2_next_3 3 rfl rfl)
theorem dX2_next_74 : decode cX2_next 74 = .ok (.dup, 1) := dk_89 (dk_at dksX2_next_3 6 rfl rfl)
theorem dX2_next_75 : decode cX2_next 75 = .ok (.invokespecial 83, 3) := dk_183 0 83 (dk_at dksX2_next_3 7 rfl rfl)
theorem dX2_next_78 : decode cX2_next 78 = .ok (.astore_n 1, 1) := dk_76 (dk_at dksX2_next_3 10 rfl rfl)
theorem dX2_next_79 : decode cX2_next 79 = .ok (.aload_n 0, 1) := dk_42 (dk_at dksX2_next_3 11 rfl rfl)
theorem dX2_next_80 : decode cX2_next 80 = .ok (.invokevirtual 59, 3) := dk_182 0 59 (dk_at dksX2_next_3 12 rfl rfl)
theorem dX2_next_83 : decode cX2_next 83 = .ok (.i2l, 1) := dk_133 (dk_at dksX2_next_3 15 rfl rfl)
theorem dX2_next_84 : decode cX2_next 84 = .ok (.ldc2_w 73, 3) := dk_20 0 73 (dk_at dksX2_next_3 16 rfl rfl)
theorem dX2_next_87 : decode cX2_next 87 = .ok (.ldc2_w 75, 3) := dk_20 0 75 (dk_at dksX2_next_3 19 rfl rfl)
theorem dX2_next_90 : decode cX2_next 90 = .ok (.invokestatic 77, 3) := dk_184 0 77 (dk_at dksX2_next_4 0 rfl rfl)
theorem dX2_next_93 : decode cX2_next 93 = .ok (.ifCond .eq 35, 3) := dk_153 0 35 (dk_at dksX2_next_4 3 rfl rfl)
theorem dX2_next_96 : decode cX2_next 96 = .ok (.aload_n 1, 1) := dk_43 (dk_at dksX2_next_4 6 rfl rfl)
theorem dX2_next_97 : decode cX2_next 97 = .ok (.invokevirtual 84, 3) := dk_182 0 84 (dk_at dksX2_next_4 7 rfl rfl)
theorem dX2_next_100 : decode cX2_next 100 = .ok (.bipush 9, 2) := dk_16 9 (dk_at dksX2_next_4 10 rfl rfl)
theorem dX2_next_102 : decode cX2_next 102 = .ok (.if_icmp .ge 13, 3) := dk_162 0 13 (dk_at dksX2_next_4 12 rfl rfl)
theorem dX2_next_105 : decode cX2_next 105 = .ok (.aload_n 1, 1) := dk_43 (dk_at dksX2_next_4 15 rfl rfl)
theorem dX2_next_106 : decode cX2_next 106 = .ok (.aload_n 0, 1) := dk_42 (dk_at dksX2_next_4 16 rfl rfl)
theorem dX2_next_107 : decode cX2_next 107 = .ok (.invokevirtual 59, 3) := dk_182 0 59 (dk_at dksX2_next_4 17 rfl rfl)
theorem dX2_next_110 : decode cX2_next 110 = .ok (.i2c, 1) := dk_146 (dk_at dksX2_next_4 20 rfl rfl)
theorem dX2_next_111 : decode cX2_next 111 = .ok (.invokevirtual 87, 3) := dk_182 0 87 (dk_at dksX2_next_4 21 rfl rfl)
theorem dX2_next_114 : decode cX2_next 114 = .ok (.pop, 1) := dk_87 (dk_at dksX2_next_5 0 rfl rfl)
theorem dX2_next_115 : decode cX2_next 115 = .ok (.aload_n 0, 1) := dk_42 (dk_at dksX2_next_5 1 rfl rfl)
theorem dX2_next_116 : decode cX2_next 116 = .ok (.dup, 1) := dk_89 (dk_at dksX2_next_5 2 rfl rfl)
theorem dX2_next_117 : decode cX2_next 117 = .ok (.getfield 9, 3) := dk_180 0 9 (dk_at dksX2_next_5 3 rfl rfl)
theorem dX2_next_120 : decode cX2_next 120 = .ok (.iconst 1, 1) := dk_4 (dk_at dksX2_next_5 6 rfl rfl)
theorem dX2_next_121 : decode cX2_next 121 = .ok (.iadd, 1) := dk_96 (dk_at dksX2_next_5 7 rfl rfl)
theorem dX2_next_122 : decode cX2_next 122 = .ok (.putfield 9, 3) := dk_181 0 9 (dk_at dksX2_next_5 8 rfl rfl)
theorem dX2_next_125 : decode cX2_next 125 = .ok (.goto (-46), 3) := dk_167 255 210 (dk_at dksX2_next_5 11 rfl rfl)
theorem dX2_next_128 : decode cX2_next 128 = .ok (.aload_n 0, 1) := dk_42 (dk_at dksX2_next_5 14 rfl rfl)
theorem dX2_next_129 : decode cX2_next 129 = .ok (.aload_n 1, 1) := dk_43 (dk_at dksX2_next_5 15 rfl rfl)
theorem dX2_next_130 : decode cX2_next 130 = .ok (.invokevirtual 91, 3) := dk_182 0 91 (dk_at dksX2_next_5 16 rfl rfl)
theorem dX2_next_133 : decode cX2_next 133 = .ok (.putfield 63, 3) := dk_181 0 63 (dk_at dksX2_next_5 19 rfl rfl)
theorem dX2_next_136 : decode cX2_next 136 = .ok (.goto 143, 3) := dk_167 0 143 (dk_at dksX2_next_6 0 rfl rfl)
theorem dX2_next_139 : decode cX2_next 139 = .ok (.aload_n 0, 1) := dk_42 (dk_at dksX2_next_6 3 rfl rfl)
theorem dX2_next_140 : decode cX2_next 140 = .ok (.invokevirtual 59, 3) := dk_182 0 59 (dk_at dksX2_next_6 4 rfl rfl)
theorem dX2_next_143 : decode cX2_next 143 = .ok (.i2l, 1) := dk_133 (dk_at dksX2_next_6 7 rfl rfl)
theorem dX2_next_144 : decode cX2_next 144 = .ok (.ldc2_w 95, 3) := dk_20 0 95 (dk_at dksX2_next_6 8 rfl rfl)
theorem dX2_next_147 : decode cX2_next 147 = .ok (.ldc2_w 97, 3) := dk_20 0 97 (dk_at dksX2_next_6 11 rfl rfl)
theorem dX2_next_150 : decode cX2_next 150 = .ok (.invokestatic 77, 3) := dk_184 0 77 (dk_at dksX2_next_6 14 rfl rfl)
theorem dX2_next_153 : decode cX2_next 153 = .ok (.ifCond .eq 80, 3) := dk_153 0 80 (dk_at dksX2_next_6 17 rfl rfl)
theorem dX2_next_156 : decode cX2_next 156 = .ok (.iconst 0, 1) := dk_3 (dk_at dksX2_next_6 20 rfl rfl)
theorem dX2_next_157 : decode cX2_next 157 = .ok (.istore_n 1, 1) := dk_60 (dk_at dksX2_next_6 21 rfl rfl)
theorem dX2_next_158 : decode cX2_next 158 = .ok (.aload_n 0, 1) := dk_42 (dk_at dksX2_next_6 22 rfl rfl)
theorem dX2_next_159 : decode cX2_next 159 = .ok (.iconst 0, 1) := dk_3 (dk_at dksX2_next_6 23 rfl rfl)
theorem dX2_next_160 : decode cX2_next 160 = .ok (.putfield 67, 3) := dk_181 0 67 (dk_at dksX2_next_7 0 rfl rfl)
theorem dX2_next_163 : decode cX2_next 163 = .ok (.aload_n 0, 1) := dk_42 (dk_at dksX2_next_7 3 rfl rfl)
theorem dX2_next_164 : decode cX2_next 164 = .ok (.invokevirtual 59, 3) := dk_182 0 59 (dk_at dksX2_next_7 4 rfl rfl)
theorem dX2_next_167 : decode cX2_next 167 = .ok (.i2l, 1) := dk_133 (dk_at dksX2_next_7 7 rfl rfl)
theorem dX2_next_168 : decode cX2_next 168 = .ok (.ldc2_w 95, 3) := dk_20 0 95 (dk_at dksX2_next_7 8 rfl rfl)
theorem dX2_next_171 : decode cX2_next 171 = .ok (.ldc2_w 97, 3) := dk_20 0 97 (dk_at dksX2_next_7 11 rfl rfl)
theorem dX2_next_174 : decode cX2_next 174 = .ok (.invokestatic 77, 3) := dk_184 0 77 (dk_at dksX2_next_7 14 rfl rfl)
theorem dX2_next_177 : decode cX2_next 177 = .ok (.ifCond .eq 43, 3) := dk_153 0 43 (dk_at dksX2_next_7 17 rfl rfl)
theorem dX2_next_180 : decode cX2_next 180 = .ok (.iload_n 1, 1) := dk_27 (dk_at dksX2_next_7 20 rfl rfl)
theorem dX2_next_181 : decode cX2_next 181 = .ok (.iconst 4, 1) := dk_7 (dk_at dksX2_next_7 21 rfl rfl)
theorem dX2_next_182 : decode cX2_next 182 = .ok (.if_icmp .ge 22, 3) := dk_162 0 22 (dk_at dksX2_next_8 0 rfl rfl)
theorem dX2_next_185 : decode cX2_next 185 = .ok (.aload_n 0, 1) := dk_42 (dk_at dksX2_next_8 3 rfl rfl)
theorem dX2_next_186 : decode cX2_next 186 = .ok (.bipush 10, 2) := dk_16 10 (dk_at dksX2_next_8 4 rfl rfl)
theorem dX2_next_188 : decode cX2_next 188 = .ok (.aload_n 0, 1) := dk_42 (dk_at dksX2_next_8 6 rfl rfl)
theorem dX2_next_189 : decode cX2_next 189 = .ok (.getfield 67, 3) := dk_180 0 67 (dk_at dksX2_next_8 7 rfl rfl)
theorem dX2_next_192 : decode cX2_next 192 = .ok (.imul, 1) := dk_104 (dk_at dksX2_next_8 10 rfl rfl)
theorem dX2_next_193 : decode cX2_next 193 = .ok (.aload_n 0, 1) := dk_42 (dk_at dksX2_next_8 11 rfl rfl)
theorem dX2_next_194 : decode cX2_next 194 = .ok (.invokevirtual 59, 3) := dk_182 0 59 (dk_at dksX2_next_8 12 rfl rfl)
theorem dX2_next_197 : decode cX2_next 197 = .ok (.iadd, 1) := dk_96 (dk_at dksX2_next_8 15 rfl rfl)
theorem dX2_next_198 : decode cX2_next 198 = .ok (.bipush 48, 2) := dk_16 48 (dk_at dksX2_next_8 16 rfl rfl)
theorem dX2_next_200 : decode cX2_next 200 = .ok (.isub, 1) := dk_100 (dk_at dksX2_next_8 18 rfl rfl)
theorem dX2_next_201 : decode cX2_next 201 = .ok (.putfield 67, 3) := dk_181 0 67 (dk_at dksX2_next_8 19 rfl rfl)
theorem dX2_next_204 : decode cX2_next 204 = .ok (.iinc 1 1, 3) := dk_132 1 1 (dk_at dksX2_next_9 0 rfl rfl)
theorem dX2_next_207 : decode cX2_next 207 = .ok (.aload_n 0, 1) := dk_42 (dk_at dksX2_next_9 3 rfl rfl)
theorem dX2_next_208 : decode cX2_next 208 = .ok (.dup, 1) := dk_89 (dk_at dksX2_next_9 4 rfl rfl)
theorem dX2_next_209 : decode cX2_next 209 = .ok (.getfield 9, 3) := dk_180 0 9 (dk_at dksX2_next_9 5 rfl rfl)
theorem dX2_next_212 : decode cX2_next 212 = .ok (.iconst 1, 1) := dk_4 (dk_at dksX2_next_9 8 rfl rfl)
theorem dX2_next_213 : decode cX2_next 213 = .ok (.iadd, 1) := dk_96 (dk_at dksX2_next_9 9 rfl rfl)
theorem dX2_next_214 : decode cX2_next 214 = .ok (.putfield 9, 3) := dk_181 0 9 (dk_at dksX2_next_9 10 rfl rfl)
theorem dX2_next_217 : decode cX2_next 217 = .ok (.goto (-54), 3) := dk_167 255 202 (dk_at dksX2_next_9 13 rfl rfl)
theorem dX2_next_220 : decode cX2_next 220 = .ok (.iload_n 1, 1) := dk_27 (dk_at dksX2_next_9 16 rfl rfl)
theorem dX2_next_221 : decode cX2_next 221 = .ok (.iconst 4, 1) := dk_7 (dk_at dksX2_next_9 17 rfl rfl)
theorem dX2_next_222 : decode cX2_next 222 = .ok (.if_icmp .le 8, 3) := dk_164 0 8 (dk_at dksX2_next_9 18 rfl rfl)
theorem dX2_next_225 : decode cX2_next 225 = .ok (.aload_n 0, 1) := dk_42 (dk_at dksX2_next_9 21 rfl rfl)
theorem dX2_next_226 : decode cX2_next 226 = .ok (.invokevirtual 99, 3) := dk_182 0 99 (dk_at dksX2_next_10 0 rfl rfl)
theorem dX2_next_229 : decode cX2_next 229 = .ok (.athrow, 1) := dk_191 (dk_at dksX2_next_10 3 rfl rfl)
theorem dX2_next_230 : decode cX2_next 230 = .ok (.goto 49, 3) := dk_167 0 49 (dk_at dksX2_next_10 4 rfl rfl)
theorem dX2_next_233 : decode cX2_next 233 = .ok (.aload_n 0, 1) := dk_42 (dk_at dksX2_next_10 7 rfl rfl)
theorem dX2_next_234 : decode cX2_next 234 = .ok (.getfield 9, 3) := dk_180 0 9 (dk_at dksX2_next_10 8 rfl rfl)
theorem dX2_next_237 : decode cX2_next 237 = .ok (.aload_n 0, 1) := dk_42 (dk_at dksX2_next_10 11 rfl rfl)
theorem dX2_next_238 : decode cX2_next 238 = .ok (.getfield 51, 3) := dk_180 0 51 (dk_at dksX2_next_10 12 rfl rfl)
theorem dX2_next_241 : decode cX2_next 241 = .ok (.if_icmp .ge 38, 3) := dk_162 0 38 (dk_at dksX2_next_10 15 rfl rfl)
theorem dX2_next_244 : decode cX2_next 244 = .ok (.aload_n 0, 1) := dk_42 (dk_at dksX2_next_10 18 rfl rfl)
theorem dX2_next_245 : decode cX2_next 245 = .ok (.aload_n 0, 1) := dk_42 (dk_at dksX2_next_10 19 rfl rfl)
theorem dX2_next_246 : decode cX2_next 246 = .ok (.invokevirtual 59, 3) := dk_182 0 59 (dk_at dksX2_next_10 20 rfl rfl)
theorem dX2_next_249 : decode cX2_next 249 = .ok (.putfield 70, 3) := dk_181 0 70 (dk_at dksX2_next_11 0 rfl rfl)
theorem dX2_next_252 : decode cX2_next 252 = .ok (.ldc 103, 2) := dk_18 103 (dk_at dksX2_next_11 3 rfl rfl)
theorem dX2_next_254 : decode cX2_next 254 = .ok (.aload_n 0, 1) := dk_42 (dk_at dksX2_next_11 5 rfl rfl)
theorem dX2_next_255 : decode cX2_next 255 = .ok (.getfield 70, 3) := dk_180 0 70 (dk_at dksX2_next_11 6 rfl rfl)
theorem dX2_next_258 : decode cX2_next 258 = .ok (.invokevirtual 105, 3) := dk_182 0 105 (dk_at dksX2_next_11 9 rfl rfl)
theorem dX2_next_261 : decode cX2_next 261 = .ok (.ifCond .ge 8, 3) := dk_156 0 8 (dk_at dksX2_next_11 12 rfl rfl)
theorem dX2_next_264 : decode cX2_next 264 = .ok (.aload_n 0, 1) := dk_42 (dk_at dksX2_next_11 15 rfl rfl)
theorem dX2_next_265 : decode cX2_next 265 = .ok (.invokevirtual 99, 3) := dk_182 0 99 (dk_at dksX2_next_11 16 rfl rfl)
theorem dX2_next_268 : decode cX2_next 268 = .ok (.athrow, 1) := dk_191 (dk_at dksX2_next_11 19 rfl rfl)
theorem dX2_next_269 : decode cX2_next 269 = .ok (.aload_n 0, 1) := dk_42 (dk_at dksX2_next_11 20 rfl rfl)
theorem dX2_next_270 : decode cX2_next 270 = .ok (.dup, 1) := dk_89 (dk_at dksX2_next_11 21 rfl rfl)
theorem dX2_next_271 : decode cX2_next 271 = .ok (.getfield 9, 3) := dk_180 0 9 (dk_at dksX2_next_12 0 rfl rfl)
theorem dX2_next_274 : decode cX2_next 274 = .ok (.iconst 1, 1) := dk_4 (dk_at dksX2_next_12 3 rfl rfl)
theorem dX2_next_275 : decode cX2_next 275 = .ok (.iadd, 1) := dk_96 (dk_at dksX2_next_12 4 rfl rfl)
theorem dX2_next_276 : decode cX2_next 276 = .ok (.putfield 9, 3) := dk_181 0 9 (dk_at dksX2_next_12 5 rfl rfl)
theorem dX2_next_279 : decode cX2_next 279 = .ok (.return_, 1) := dk_177 (dk_at dksX2_next_12 8 rfl rfl)
abbrev cX2_here : ByteArray := prog_13_method_3_code
def yX2_here : MethodName := ⟨RX2, "here", "()I"⟩
def dkwX2_here_1 : List UInt8 := [167, 0, 4, 2, 172]
abbrev dktX2_here_1 : List UInt8 := dkwX2_here_1 ++ []
def dkwX2_here_0 : List UInt8 := [42, 180, 0, 9, 42, 180, 0, 51, 162, 0, 19, 42, 180, 0, 47, 42, 180, 0, 9, 51, 17, 0, 255, 126]
abbrev dktX2_here_0 : List UInt8 := dkwX2_here_0 ++ dktX2_here_1
theorem dksX2_here_0 : cX2_here.data.toList.drop 0 = dktX2_here_0 := by decide +kernel
theorem dksX2_here_1 : cX2_here.data.toList.drop 24 = dktX2_here_1 := dk_seg dksX2_here_0 24 rfl rfl
theorem dX2_here_0 : decode cX2_here 0 = .ok (.aload_n 0, 1) := dk_42 (dk_at dksX2_here_0 0 rfl rfl)
theorem dX2_here_1 : decode cX2_here 1 = .ok (.getfield 9, 3) := dk_180 0 9 (dk_at dksX2_here_0 1 rfl rfl)
theorem dX2_here_4 : decode cX2_here 4 = .ok (.aload_n 0, 1) := dk_42 (dk_at dksX2_here_0 4 rfl rfl)
theorem dX2_here_5 : decode cX2_here 5 = .ok (.getfield 51, 3) := dk_180 0 51 (dk_at dksX2_here_0 5 rfl rfl)
theorem dX2_here_8 : decode cX2_here 8 = .ok (.if_icmp .ge 19, 3) := dk_162 0 19 (dk_at dksX2_here_0 8 rfl rfl)
theorem dX2_here_11 : decode cX2_here 11 = .ok (.aload_n 0, 1) := dk_42 (dk_at dksX2_here_0 11 rfl rfl)
theorem dX2_here_12 : decode cX2_here 12 = .ok (.getfield 47, 3) := dk_180 0 47 (dk_at dksX2_here_0 12 rfl rfl)
theorem dX2_here_15 : decode cX2_here 15 = .ok (.aload_n 0, 1) := dk_42 (dk_at dksX2_here_0 15 rfl rfl)
theorem dX2_here_16 : decode cX2_here 16 = .ok (.getfield 9, 3) := dk_180 0 9 (dk_at dksX2_here_0 16 rfl rfl)
theorem dX2_here_19 : decode cX2_here 19 = .ok (.baload, 1) := dk_51 (dk_at dksX2_here_0 19 rfl rfl)
theorem dX2_here_20 : decode cX2_here 20 = .ok (.sipush 255, 3) := dk_17 0 255 (dk_at dksX2_here_0 20 rfl rfl)
theorem dX2_here_23 : decode cX2_here 23 = .ok (.iand, 1) := dk_126 (dk_at dksX2_here_0 23 rfl rfl)
theorem dX2_here_24 : decode cX2_here 24 = .ok (.goto 4, 3) := dk_167 0 4 (dk_at dksX2_here_1 0 rfl rfl)
theorem dX2_here_27 : decode cX2_here 27 = .ok (.iconst (-1), 1) := dk_2 (dk_at dksX2_here_1 3 rfl rfl)
theorem dX2_here_28 : decode cX2_here 28 = .ok (.ireturn, 1) := dk_172 (dk_at dksX2_here_1 4 rfl rfl)
abbrev cX2_fault : ByteArray := prog_13_method_2_code
def yX2_fault : MethodName := ⟨RX2, "fault", "()LNameThrownBack$Fault;"⟩
def dkwX2_fault_0 : List UInt8 := [187, 0, 54, 89, 42, 180, 0, 15, 183, 0, 56, 176]
abbrev dktX2_fault_0 : List UInt8 := dkwX2_fault_0 ++ []
theorem dksX2_fault_0 : cX2_fault.data.toList.drop 0 = dktX2_fault_0 := by decide +kernel
theorem dX2_fault_0 : decode cX2_fault 0 = .ok (.new 54, 3) := dk_187 0 54 (dk_at dksX2_fault_0 0 rfl rfl)
theorem dX2_fault_3 : decode cX2_fault 3 = .ok (.dup, 1) := dk_89 (dk_at dksX2_fault_0 3 rfl rfl)
theorem dX2_fault_4 : decode cX2_fault 4 = .ok (.aload_n 0, 1) := dk_42 (dk_at dksX2_fault_0 4 rfl rfl)
theorem dX2_fault_5 : decode cX2_fault 5 = .ok (.getfield 15, 3) := dk_180 0 15 (dk_at dksX2_fault_0 5 rfl rfl)
theorem dX2_fault_8 : decode cX2_fault 8 = .ok (.invokespecial 56, 3) := dk_183 0 56 (dk_at dksX2_fault_0 8 rfl rfl)
theorem dX2_fault_11 : decode cX2_fault 11 = .ok (.areturn, 1) := dk_176 (dk_at dksX2_fault_0 11 rfl rfl)
abbrev cX2_is : ByteArray := prog_13_method_5_code
def yX2_is : MethodName := ⟨RX2, "is", "(Ljava/lang/String;)Z"⟩
def dkwX2_is_0 : List UInt8 := [43, 42, 180, 0, 63, 182, 0, 109, 172]
abbrev dktX2_is_0 : List UInt8 := dkwX2_is_0 ++ []
theorem dksX2_is_0 : cX2_is.data.toList.drop 0 = dktX2_is_0 := by decide +kernel
theorem dX2_is_0 : decode cX2_is 0 = .ok (.aload_n 1, 1) := dk_43 (dk_at dksX2_is_0 0 rfl rfl)
theorem dX2_is_1 : decode cX2_is 1 = .ok (.aload_n 0, 1) := dk_42 (dk_at dksX2_is_0 1 rfl rfl)
theorem dX2_is_2 : decode cX2_is 2 = .ok (.getfield 63, 3) := dk_180 0 63 (dk_at dksX2_is_0 2 rfl rfl)
theorem dX2_is_5 : decode cX2_is 5 = .ok (.invokevirtual 109, 3) := dk_182 0 109 (dk_at dksX2_is_0 5 rfl rfl)
theorem dX2_is_8 : decode cX2_is 8 = .ok (.ireturn, 1) := dk_172 (dk_at dksX2_is_0 8 rfl rfl)
abbrev cX2_either : ByteArray := prog_13_method_13_code
def yX2_either : MethodName := ⟨RX2, "either", "()LNameThrownBack$Node;"⟩
def dkwX2_either_1 : List UInt8 := [43, 42, 182, 0, 160, 183, 0, 145, 76, 167, 255, 228, 43, 176]
abbrev dktX2_either_1 : List UInt8 := dkwX2_either_1 ++ []
def dkwX2_either_0 : List UInt8 := [42, 182, 0, 160, 76, 42, 18, 163, 182, 0, 136, 153, 0, 25, 42, 182, 0, 113, 187, 0, 143, 89, 16, 124]
abbrev dktX2_either_0 : List UInt8 := dkwX2_either_0 ++ dktX2_either_1
theorem dksX2_either_0 : cX2_either.data.toList.drop 0 = dktX2_either_0 := by decide +kernel
theorem dksX2_either_1 : cX2_either.data.toList.drop 24 = dktX2_either_1 := dk_seg dksX2_either_0 24 rfl rfl
theorem dX2_either_0 : decode cX2_either 0 = .ok (.aload_n 0, 1) := dk_42 (dk_at dksX2_either_0 0 rfl rfl)
theorem dX2_either_1 : decode cX2_either 1 = .ok (.invokevirtual 160, 3) := dk_182 0 160 (dk_at dksX2_either_0 1 rfl rfl)
theorem dX2_either_4 : decode cX2_either 4 = .ok (.astore_n 1, 1) := dk_76 (dk_at dksX2_either_0 4 rfl rfl)
theorem dX2_either_5 : decode cX2_either 5 = .ok (.aload_n 0, 1) := dk_42 (dk_at dksX2_either_0 5 rfl rfl)
theorem dX2_either_6 : decode cX2_either 6 = .ok (.ldc 163, 2) := dk_18 163 (dk_at dksX2_either_0 6 rfl rfl)
theorem dX2_either_8 : decode cX2_either 8 = .ok (.invokevirtual 136, 3) := dk_182 0 136 (dk_at dksX2_either_0 8 rfl rfl)
theorem dX2_either_11 : decode cX2_either 11 = .ok (.ifCond .eq 25, 3) := dk_153 0 25 (dk_at dksX2_either_0 11 rfl rfl)
theorem dX2_either_14 : decode cX2_either 14 = .ok (.aload_n 0, 1) := dk_42 (dk_at dksX2_either_0 14 rfl rfl)
theorem dX2_either_15 : decode cX2_either 15 = .ok (.invokevirtual 113, 3) := dk_182 0 113 (dk_at dksX2_either_0 15 rfl rfl)
theorem dX2_either_18 : decode cX2_either 18 = .ok (.new 143, 3) := dk_187 0 143 (dk_at dksX2_either_0 18 rfl rfl)
theorem dX2_either_21 : decode cX2_either 21 = .ok (.dup, 1) := dk_89 (dk_at dksX2_either_0 21 rfl rfl)
theorem dX2_either_22 : decode cX2_either 22 = .ok (.bipush 124, 2) := dk_16 124 (dk_at dksX2_either_0 22 rfl rfl)
theorem dX2_either_24 : decode cX2_either 24 = .ok (.aload_n 1, 1) := dk_43 (dk_at dksX2_either_1 0 rfl rfl)
theorem dX2_either_25 : decode cX2_either 25 = .ok (.aload_n 0, 1) := dk_42 (dk_at dksX2_either_1 1 rfl rfl)
theorem dX2_either_26 : decode cX2_either 26 = .ok (.invokevirtual 160, 3) := dk_182 0 160 (dk_at dksX2_either_1 2 rfl rfl)
theorem dX2_either_29 : decode cX2_either 29 = .ok (.invokespecial 145, 3) := dk_183 0 145 (dk_at dksX2_either_1 5 rfl rfl)
theorem dX2_either_32 : decode cX2_either 32 = .ok (.astore_n 1, 1) := dk_76 (dk_at dksX2_either_1 8 rfl rfl)
theorem dX2_either_33 : decode cX2_either 33 = .ok (.goto (-28), 3) := dk_167 255 228 (dk_at dksX2_either_1 9 rfl rfl)
theorem dX2_either_36 : decode cX2_either 36 = .ok (.aload_n 1, 1) := dk_43 (dk_at dksX2_either_1 12 rfl rfl)
theorem dX2_either_37 : decode cX2_either 37 = .ok (.areturn, 1) := dk_176 (dk_at dksX2_either_1 13 rfl rfl)
abbrev cX2_both : ByteArray := prog_13_method_12_code
def yX2_both : MethodName := ⟨RX2, "both", "()LNameThrownBack$Node;"⟩
def dkwX2_both_1 : List UInt8 := [43, 42, 182, 0, 153, 183, 0, 145, 76, 167, 255, 228, 43, 176]
abbrev dktX2_both_1 : List UInt8 := dkwX2_both_1 ++ []
def dkwX2_both_0 : List UInt8 := [42, 182, 0, 153, 76, 42, 18, 158, 182, 0, 136, 153, 0, 25, 42, 182, 0, 113, 187, 0, 143, 89, 16, 38]
abbrev dktX2_both_0 : List UInt8 := dkwX2_both_0 ++ dktX2_both_1
theorem dksX2_both_0 : cX2_both.data.toList.drop 0 = dktX2_both_0 := by decide +kernel
theorem dksX2_both_1 : cX2_both.data.toList.drop 24 = dktX2_both_1 := dk_seg dksX2_both_0 24 rfl rfl
theorem dX2_both_0 : decode cX2_both 0 = .ok (.aload_n 0, 1) := dk_42 (dk_at dksX2_both_0 0 rfl rfl)
theorem dX2_both_1 : decode cX2_both 1 = .ok (.invokevirtual 153, 3) := dk_182 0 153 (dk_at dksX2_both_0 1 rfl rfl)
theorem dX2_both_4 : decode cX2_both 4 = .ok (.astore_n 1, 1) := dk_76 (dk_at dksX2_both_0 4 rfl rfl)
theorem dX2_both_5 : decode cX2_both 5 = .ok (.aload_n 0, 1) := dk_42 (dk_at dksX2_both_0 5 rfl rfl)
theorem dX2_both_6 : decode cX2_both 6 = .ok (.ldc 158, 2) := dk_18 158 (dk_at dksX2_both_0 6 rfl rfl)
theorem dX2_both_8 : decode cX2_both 8 = .ok (.invokevirtual 136, 3) := dk_182 0 136 (dk_at dksX2_both_0 8 rfl rfl)
theorem dX2_both_11 : decode cX2_both 11 = .ok (.ifCond .eq 25, 3) := dk_153 0 25 (dk_at dksX2_both_0 11 rfl rfl)
theorem dX2_both_14 : decode cX2_both 14 = .ok (.aload_n 0, 1) := dk_42 (dk_at dksX2_both_0 14 rfl rfl)
theorem dX2_both_15 : decode cX2_both 15 = .ok (.invokevirtual 113, 3) := dk_182 0 113 (dk_at dksX2_both_0 15 rfl rfl)
theorem dX2_both_18 : decode cX2_both 18 = .ok (.new 143, 3) := dk_187 0 143 (dk_at dksX2_both_0 18 rfl rfl)
theorem dX2_both_21 : decode cX2_both 21 = .ok (.dup, 1) := dk_89 (dk_at dksX2_both_0 21 rfl rfl)
theorem dX2_both_22 : decode cX2_both 22 = .ok (.bipush 38, 2) := dk_16 38 (dk_at dksX2_both_0 22 rfl rfl)
theorem dX2_both_24 : decode cX2_both 24 = .ok (.aload_n 1, 1) := dk_43 (dk_at dksX2_both_1 0 rfl rfl)
theorem dX2_both_25 : decode cX2_both 25 = .ok (.aload_n 0, 1) := dk_42 (dk_at dksX2_both_1 1 rfl rfl)
theorem dX2_both_26 : decode cX2_both 26 = .ok (.invokevirtual 153, 3) := dk_182 0 153 (dk_at dksX2_both_1 2 rfl rfl)
theorem dX2_both_29 : decode cX2_both 29 = .ok (.invokespecial 145, 3) := dk_183 0 145 (dk_at dksX2_both_1 5 rfl rfl)
theorem dX2_both_32 : decode cX2_both 32 = .ok (.astore_n 1, 1) := dk_76 (dk_at dksX2_both_1 8 rfl rfl)
theorem dX2_both_33 : decode cX2_both 33 = .ok (.goto (-28), 3) := dk_167 255 228 (dk_at dksX2_both_1 9 rfl rfl)
theorem dX2_both_36 : decode cX2_both 36 = .ok (.aload_n 1, 1) := dk_43 (dk_at dksX2_both_1 12 rfl rfl)
theorem dX2_both_37 : decode cX2_both 37 = .ok (.areturn, 1) := dk_176 (dk_at dksX2_both_1 13 rfl rfl)
abbrev cX2_not : ByteArray := prog_13_method_11_code
def yX2_not : MethodName := ⟨RX2, "not", "()LNameThrownBack$Node;"⟩
def dkwX2_not_3 : List UInt8 := [182, 0, 113, 187, 0, 143, 89, 28, 43, 42, 182, 0, 155, 183, 0, 145, 176]
abbrev dktX2_not_3 : List UInt8 := dkwX2_not_3 ++ []
def dkwX2_not_2 : List UInt8 := [16, 60, 159, 0, 14, 42, 180, 0, 70, 16, 61, 159, 0, 5, 43, 176, 42, 180, 0, 70, 61, 42]
abbrev dktX2_not_2 : List UInt8 := dkwX2_not_2 ++ dktX2_not_3
def dkwX2_not_1 : List UInt8 := [100, 181, 0, 18, 187, 0, 123, 89, 4, 43, 183, 0, 125, 176, 42, 182, 0, 155, 76, 42, 180, 0, 70]
abbrev dktX2_not_1 : List UInt8 := dkwX2_not_1 ++ dktX2_not_2
def dkwX2_not_0 : List UInt8 := [42, 18, 151, 182, 0, 136, 153, 0, 32, 42, 182, 0, 116, 42, 182, 0, 153, 76, 42, 89, 180, 0, 18, 4]
abbrev dktX2_not_0 : List UInt8 := dkwX2_not_0 ++ dktX2_not_1
theorem dksX2_not_0 : cX2_not.data.toList.drop 0 = dktX2_not_0 := by decide +kernel
theorem dksX2_not_1 : cX2_not.data.toList.drop 24 = dktX2_not_1 := dk_seg dksX2_not_0 24 rfl rfl
theorem dksX2_not_2 : cX2_not.data.toList.drop 47 = dktX2_not_2 := dk_seg dksX2_not_1 23 rfl rfl
theorem dksX2_not_3 : cX2_not.data.toList.drop 69 = dktX2_not_3 := dk_seg dksX2_not_2 22 rfl rfl
theorem dX2_not_0 : decode cX2_not 0 = .ok (.aload_n 0, 1) := dk_42 (dk_at dksX2_not_0 0 rfl rfl)
theorem dX2_not_1 : decode cX2_not 1 = .ok (.ldc 151, 2) := dk_18 151 (dk_at dksX2_not_0 1 rfl rfl)
theorem dX2_not_3 : decode cX2_not 3 = .ok (.invokevirtual 136, 3) := dk_182 0 136 (dk_at dksX2_not_0 3 rfl rfl)
theorem dX2_not_6 : decode cX2_not 6 = .ok (.ifCond .eq 32, 3) := dk_153 0 32 (dk_at dksX2_not_0 6 rfl rfl)
theorem dX2_not_9 : decode cX2_not 9 = .ok (.aload_n 0, 1) := dk_42 (dk_at dksX2_not_0 9 rfl rfl)
theorem dX2_not_10 : decode cX2_not 10 = .ok (.invokevirtual 116, 3) := dk_182 0 116 (dk_at dksX2_not_0 10 rfl rfl)
theorem dX2_not_13 : decode cX2_not 13 = .ok (.aload_n 0, 1) := dk_42 (dk_at dksX2_not_0 13 rfl rfl)
theorem dX2_not_14 : decode cX2_not 14 = .ok (.invokevirtual 153, 3) := dk_182 0 153 (dk_at dksX2_not_0 14 rfl rfl)
theorem dX2_not_17 : decode cX2_not 17 = .ok (.astore_n 1, 1) := dk_76 (dk_at dksX2_not_0 17 rfl rfl)
theorem dX2_not_18 : decode cX2_not 18 = .ok (.aload_n 0, 1) := dk_42 (dk_at dksX2_not_0 18 rfl rfl)
theorem dX2_not_19 : decode cX2_not 19 = .ok (.dup, 1) := dk_89 (dk_at dksX2_not_0 19 rfl rfl)
theorem dX2_not_20 : decode cX2_not 20 = .ok (.getfield 18, 3) := dk_180 0 18 (dk_at dksX2_not_0 20 rfl rfl)
theorem dX2_not_23 : decode cX2_not 23 = .ok (.iconst 1, 1) := dk_4 (dk_at dksX2_not_0 23 rfl rfl)
theorem dX2_not_24 : decode cX2_not 24 = .ok (.isub, 1) := dk_100 (dk_at dksX2_not_1 0 rfl rfl)
theorem dX2_not_25 : decode cX2_not 25 = .ok (.putfield 18, 3) := dk_181 0 18 (dk_at dksX2_not_1 1 rfl rfl)
theorem dX2_not_28 : decode cX2_not 28 = .ok (.new 123, 3) := dk_187 0 123 (dk_at dksX2_not_1 4 rfl rfl)
theorem dX2_not_31 : decode cX2_not 31 = .ok (.dup, 1) := dk_89 (dk_at dksX2_not_1 7 rfl rfl)
theorem dX2_not_32 : decode cX2_not 32 = .ok (.iconst 1, 1) := dk_4 (dk_at dksX2_not_1 8 rfl rfl)
theorem dX2_not_33 : decode cX2_not 33 = .ok (.aload_n 1, 1) := dk_43 (dk_at dksX2_not_1 9 rfl rfl)
theorem dX2_not_34 : decode cX2_not 34 = .ok (.invokespecial 125, 3) := dk_183 0 125 (dk_at dksX2_not_1 10 rfl rfl)
theorem dX2_not_37 : decode cX2_not 37 = .ok (.areturn, 1) := dk_176 (dk_at dksX2_not_1 13 rfl rfl)
theorem dX2_not_38 : decode cX2_not 38 = .ok (.aload_n 0, 1) := dk_42 (dk_at dksX2_not_1 14 rfl rfl)
theorem dX2_not_39 : decode cX2_not 39 = .ok (.invokevirtual 155, 3) := dk_182 0 155 (dk_at dksX2_not_1 15 rfl rfl)
theorem dX2_not_42 : decode cX2_not 42 = .ok (.astore_n 1, 1) := dk_76 (dk_at dksX2_not_1 18 rfl rfl)
theorem dX2_not_43 : decode cX2_not 43 = .ok (.aload_n 0, 1) := dk_42 (dk_at dksX2_not_1 19 rfl rfl)
theorem dX2_not_44 : decode cX2_not 44 = .ok (.getfield 70, 3) := dk_180 0 70 (dk_at dksX2_not_1 20 rfl rfl)
theorem dX2_not_47 : decode cX2_not 47 = .ok (.bipush 60, 2) := dk_16 60 (dk_at dksX2_not_2 0 rfl rfl)
theorem dX2_not_49 : decode cX2_not 49 = .ok (.if_icmp .eq 14, 3) := dk_159 0 14 (dk_at dksX2_not_2 2 rfl rfl)
theorem dX2_not_52 : decode cX2_not 52 = .ok (.aload_n 0, 1) := dk_42 (dk_at dksX2_not_2 5 rfl rfl)
theorem dX2_not_53 : decode cX2_not 53 = .ok (.getfield 70, 3) := dk_180 0 70 (dk_at dksX2_not_2 6 rfl rfl)
theorem dX2_not_56 : decode cX2_not 56 = .ok (.bipush 61, 2) := dk_16 61 (dk_at dksX2_not_2 9 rfl rfl)
theorem dX2_not_58 : decode cX2_not 58 = .ok (.if_icmp .eq 5, 3) := dk_159 0 5 (dk_at dksX2_not_2 11 rfl rfl)
theorem dX2_not_61 : decode cX2_not 61 = .ok (.aload_n 1, 1) := dk_43 (dk_at dksX2_not_2 14 rfl rfl)
theorem dX2_not_62 : decode cX2_not 62 = .ok (.areturn, 1) := dk_176 (dk_at dksX2_not_2 15 rfl rfl)
theorem dX2_not_63 : decode cX2_not 63 = .ok (.aload_n 0, 1) := dk_42 (dk_at dksX2_not_2 16 rfl rfl)
theorem dX2_not_64 : decode cX2_not 64 = .ok (.getfield 70, 3) := dk_180 0 70 (dk_at dksX2_not_2 17 rfl rfl)
theorem dX2_not_67 : decode cX2_not 67 = .ok (.istore_n 2, 1) := dk_61 (dk_at dksX2_not_2 20 rfl rfl)
theorem dX2_not_68 : decode cX2_not 68 = .ok (.aload_n 0, 1) := dk_42 (dk_at dksX2_not_2 21 rfl rfl)
theorem dX2_not_69 : decode cX2_not 69 = .ok (.invokevirtual 113, 3) := dk_182 0 113 (dk_at dksX2_not_3 0 rfl rfl)
theorem dX2_not_72 : decode cX2_not 72 = .ok (.new 143, 3) := dk_187 0 143 (dk_at dksX2_not_3 3 rfl rfl)
theorem dX2_not_75 : decode cX2_not 75 = .ok (.dup, 1) := dk_89 (dk_at dksX2_not_3 6 rfl rfl)
theorem dX2_not_76 : decode cX2_not 76 = .ok (.iload_n 2, 1) := dk_28 (dk_at dksX2_not_3 7 rfl rfl)
theorem dX2_not_77 : decode cX2_not 77 = .ok (.aload_n 1, 1) := dk_43 (dk_at dksX2_not_3 8 rfl rfl)
theorem dX2_not_78 : decode cX2_not 78 = .ok (.aload_n 0, 1) := dk_42 (dk_at dksX2_not_3 9 rfl rfl)
theorem dX2_not_79 : decode cX2_not 79 = .ok (.invokevirtual 155, 3) := dk_182 0 155 (dk_at dksX2_not_3 10 rfl rfl)
theorem dX2_not_82 : decode cX2_not 82 = .ok (.invokespecial 145, 3) := dk_183 0 145 (dk_at dksX2_not_3 13 rfl rfl)
theorem dX2_not_85 : decode cX2_not 85 = .ok (.areturn, 1) := dk_176 (dk_at dksX2_not_3 16 rfl rfl)
abbrev cX2_opens : ByteArray := prog_13_method_7_code
def yX2_opens : MethodName := ⟨RX2, "opens", "()V"⟩
def dkwX2_opens_1 : List UInt8 := [182, 0, 113, 177]
abbrev dktX2_opens_1 : List UInt8 := dkwX2_opens_1 ++ []
def dkwX2_opens_0 : List UInt8 := [42, 180, 0, 18, 8, 160, 0, 8, 42, 182, 0, 99, 191, 42, 89, 180, 0, 18, 4, 96, 181, 0, 18, 42]
abbrev dktX2_opens_0 : List UInt8 := dkwX2_opens_0 ++ dktX2_opens_1
theorem dksX2_opens_0 : cX2_opens.data.toList.drop 0 = dktX2_opens_0 := by decide +kernel
theorem dksX2_opens_1 : cX2_opens.data.toList.drop 24 = dktX2_opens_1 := dk_seg dksX2_opens_0 24 rfl rfl
theorem dX2_opens_0 : decode cX2_opens 0 = .ok (.aload_n 0, 1) := dk_42 (dk_at dksX2_opens_0 0 rfl rfl)
theorem dX2_opens_1 : decode cX2_opens 1 = .ok (.getfield 18, 3) := dk_180 0 18 (dk_at dksX2_opens_0 1 rfl rfl)
theorem dX2_opens_4 : decode cX2_opens 4 = .ok (.iconst 5, 1) := dk_8 (dk_at dksX2_opens_0 4 rfl rfl)
theorem dX2_opens_5 : decode cX2_opens 5 = .ok (.if_icmp .ne 8, 3) := dk_160 0 8 (dk_at dksX2_opens_0 5 rfl rfl)
theorem dX2_opens_8 : decode cX2_opens 8 = .ok (.aload_n 0, 1) := dk_42 (dk_at dksX2_opens_0 8 rfl rfl)
theorem dX2_opens_9 : decode cX2_opens 9 = .ok (.invokevirtual 99, 3) := dk_182 0 99 (dk_at dksX2_opens_0 9 rfl rfl)
theorem dX2_opens_12 : decode cX2_opens 12 = .ok (.athrow, 1) := dk_191 (dk_at dksX2_opens_0 12 rfl rfl)
theorem dX2_opens_13 : decode cX2_opens 13 = .ok (.aload_n 0, 1) := dk_42 (dk_at dksX2_opens_0 13 rfl rfl)
theorem dX2_opens_14 : decode cX2_opens 14 = .ok (.dup, 1) := dk_89 (dk_at dksX2_opens_0 14 rfl rfl)
theorem dX2_opens_15 : decode cX2_opens 15 = .ok (.getfield 18, 3) := dk_180 0 18 (dk_at dksX2_opens_0 15 rfl rfl)
theorem dX2_opens_18 : decode cX2_opens 18 = .ok (.iconst 1, 1) := dk_4 (dk_at dksX2_opens_0 18 rfl rfl)
theorem dX2_opens_19 : decode cX2_opens 19 = .ok (.iadd, 1) := dk_96 (dk_at dksX2_opens_0 19 rfl rfl)
theorem dX2_opens_20 : decode cX2_opens 20 = .ok (.putfield 18, 3) := dk_181 0 18 (dk_at dksX2_opens_0 20 rfl rfl)
theorem dX2_opens_23 : decode cX2_opens 23 = .ok (.aload_n 0, 1) := dk_42 (dk_at dksX2_opens_0 23 rfl rfl)
theorem dX2_opens_24 : decode cX2_opens 24 = .ok (.invokevirtual 113, 3) := dk_182 0 113 (dk_at dksX2_opens_1 0 rfl rfl)
theorem dX2_opens_27 : decode cX2_opens 27 = .ok (.return_, 1) := dk_177 (dk_at dksX2_opens_1 3 rfl rfl)
abbrev cX2_sum : ByteArray := prog_13_method_10_code
def yX2_sum : MethodName := ⟨RX2, "sum", "()LNameThrownBack$Node;"⟩
def dkwX2_sum_2 : List UInt8 := [167, 255, 215, 43, 176]
abbrev dktX2_sum_2 : List UInt8 := dkwX2_sum_2 ++ []
def dkwX2_sum_1 : List UInt8 := [180, 0, 70, 61, 42, 182, 0, 113, 187, 0, 143, 89, 28, 43, 42, 182, 0, 148, 183, 0, 145, 76]
abbrev dktX2_sum_1 : List UInt8 := dkwX2_sum_1 ++ dktX2_sum_2
def dkwX2_sum_0 : List UInt8 := [42, 182, 0, 148, 76, 42, 180, 0, 70, 16, 43, 159, 0, 12, 42, 180, 0, 70, 16, 45, 160, 0, 29, 42]
abbrev dktX2_sum_0 : List UInt8 := dkwX2_sum_0 ++ dktX2_sum_1
theorem dksX2_sum_0 : cX2_sum.data.toList.drop 0 = dktX2_sum_0 := by decide +kernel
theorem dksX2_sum_1 : cX2_sum.data.toList.drop 24 = dktX2_sum_1 := dk_seg dksX2_sum_0 24 rfl rfl
theorem dksX2_sum_2 : cX2_sum.data.toList.drop 46 = dktX2_sum_2 := dk_seg dksX2_sum_1 22 rfl rfl
theorem dX2_sum_0 : decode cX2_sum 0 = .ok (.aload_n 0, 1) := dk_42 (dk_at dksX2_sum_0 0 rfl rfl)
theorem dX2_sum_1 : decode cX2_sum 1 = .ok (.invokevirtual 148, 3) := dk_182 0 148 (dk_at dksX2_sum_0 1 rfl rfl)
theorem dX2_sum_4 : decode cX2_sum 4 = .ok (.astore_n 1, 1) := dk_76 (dk_at dksX2_sum_0 4 rfl rfl)
theorem dX2_sum_5 : decode cX2_sum 5 = .ok (.aload_n 0, 1) := dk_42 (dk_at dksX2_sum_0 5 rfl rfl)
theorem dX2_sum_6 : decode cX2_sum 6 = .ok (.getfield 70, 3) := dk_180 0 70 (dk_at dksX2_sum_0 6 rfl rfl)
theorem dX2_sum_9 : decode cX2_sum 9 = .ok (.bipush 43, 2) := dk_16 43 (dk_at dksX2_sum_0 9 rfl rfl)
theorem dX2_sum_11 : decode cX2_sum 11 = .ok (.if_icmp .eq 12, 3) := dk_159 0 12 (dk_at dksX2_sum_0 11 rfl rfl)
theorem dX2_sum_14 : decode cX2_sum 14 = .ok (.aload_n 0, 1) := dk_42 (dk_at dksX2_sum_0 14 rfl rfl)
theorem dX2_sum_15 : decode cX2_sum 15 = .ok (.getfield 70, 3) := dk_180 0 70 (dk_at dksX2_sum_0 15 rfl rfl)
theorem dX2_sum_18 : decode cX2_sum 18 = .ok (.bipush 45, 2) := dk_16 45 (dk_at dksX2_sum_0 18 rfl rfl)
theorem dX2_sum_20 : decode cX2_sum 20 = .ok (.if_icmp .ne 29, 3) := dk_160 0 29 (dk_at dksX2_sum_0 20 rfl rfl)
theorem dX2_sum_23 : decode cX2_sum 23 = .ok (.aload_n 0, 1) := dk_42 (dk_at dksX2_sum_0 23 rfl rfl)
theorem dX2_sum_24 : decode cX2_sum 24 = .ok (.getfield 70, 3) := dk_180 0 70 (dk_at dksX2_sum_1 0 rfl rfl)
theorem dX2_sum_27 : decode cX2_sum 27 = .ok (.istore_n 2, 1) := dk_61 (dk_at dksX2_sum_1 3 rfl rfl)
theorem dX2_sum_28 : decode cX2_sum 28 = .ok (.aload_n 0, 1) := dk_42 (dk_at dksX2_sum_1 4 rfl rfl)
theorem dX2_sum_29 : decode cX2_sum 29 = .ok (.invokevirtual 113, 3) := dk_182 0 113 (dk_at dksX2_sum_1 5 rfl rfl)
theorem dX2_sum_32 : decode cX2_sum 32 = .ok (.new 143, 3) := dk_187 0 143 (dk_at dksX2_sum_1 8 rfl rfl)
theorem dX2_sum_35 : decode cX2_sum 35 = .ok (.dup, 1) := dk_89 (dk_at dksX2_sum_1 11 rfl rfl)
theorem dX2_sum_36 : decode cX2_sum 36 = .ok (.iload_n 2, 1) := dk_28 (dk_at dksX2_sum_1 12 rfl rfl)
theorem dX2_sum_37 : decode cX2_sum 37 = .ok (.aload_n 1, 1) := dk_43 (dk_at dksX2_sum_1 13 rfl rfl)
theorem dX2_sum_38 : decode cX2_sum 38 = .ok (.aload_n 0, 1) := dk_42 (dk_at dksX2_sum_1 14 rfl rfl)
theorem dX2_sum_39 : decode cX2_sum 39 = .ok (.invokevirtual 148, 3) := dk_182 0 148 (dk_at dksX2_sum_1 15 rfl rfl)
theorem dX2_sum_42 : decode cX2_sum 42 = .ok (.invokespecial 145, 3) := dk_183 0 145 (dk_at dksX2_sum_1 18 rfl rfl)
theorem dX2_sum_45 : decode cX2_sum 45 = .ok (.astore_n 1, 1) := dk_76 (dk_at dksX2_sum_1 21 rfl rfl)
theorem dX2_sum_46 : decode cX2_sum 46 = .ok (.goto (-41), 3) := dk_167 255 215 (dk_at dksX2_sum_2 0 rfl rfl)
theorem dX2_sum_49 : decode cX2_sum 49 = .ok (.aload_n 1, 1) := dk_43 (dk_at dksX2_sum_2 3 rfl rfl)
theorem dX2_sum_50 : decode cX2_sum 50 = .ok (.areturn, 1) := dk_176 (dk_at dksX2_sum_2 4 rfl rfl)
abbrev cX2_term : ByteArray := prog_13_method_9_code
def yX2_term : MethodName := ⟨RX2, "term", "()LNameThrownBack$Node;"⟩
def dkwX2_term_1 : List UInt8 := [182, 0, 119, 183, 0, 145, 76, 167, 255, 232, 43, 176]
abbrev dktX2_term_1 : List UInt8 := dkwX2_term_1 ++ []
def dkwX2_term_0 : List UInt8 := [42, 182, 0, 119, 76, 42, 16, 42, 182, 0, 140, 153, 0, 21, 187, 0, 143, 89, 16, 42, 43, 42]
abbrev dktX2_term_0 : List UInt8 := dkwX2_term_0 ++ dktX2_term_1
theorem dksX2_term_0 : cX2_term.data.toList.drop 0 = dktX2_term_0 := by decide +kernel
theorem dksX2_term_1 : cX2_term.data.toList.drop 22 = dktX2_term_1 := dk_seg dksX2_term_0 22 rfl rfl
theorem dX2_term_0 : decode cX2_term 0 = .ok (.aload_n 0, 1) := dk_42 (dk_at dksX2_term_0 0 rfl rfl)
theorem dX2_term_1 : decode cX2_term 1 = .ok (.invokevirtual 119, 3) := dk_182 0 119 (dk_at dksX2_term_0 1 rfl rfl)
theorem dX2_term_4 : decode cX2_term 4 = .ok (.astore_n 1, 1) := dk_76 (dk_at dksX2_term_0 4 rfl rfl)
theorem dX2_term_5 : decode cX2_term 5 = .ok (.aload_n 0, 1) := dk_42 (dk_at dksX2_term_0 5 rfl rfl)
theorem dX2_term_6 : decode cX2_term 6 = .ok (.bipush 42, 2) := dk_16 42 (dk_at dksX2_term_0 6 rfl rfl)
theorem dX2_term_8 : decode cX2_term 8 = .ok (.invokevirtual 140, 3) := dk_182 0 140 (dk_at dksX2_term_0 8 rfl rfl)
theorem dX2_term_11 : decode cX2_term 11 = .ok (.ifCond .eq 21, 3) := dk_153 0 21 (dk_at dksX2_term_0 11 rfl rfl)
theorem dX2_term_14 : decode cX2_term 14 = .ok (.new 143, 3) := dk_187 0 143 (dk_at dksX2_term_0 14 rfl rfl)
theorem dX2_term_17 : decode cX2_term 17 = .ok (.dup, 1) := dk_89 (dk_at dksX2_term_0 17 rfl rfl)
theorem dX2_term_18 : decode cX2_term 18 = .ok (.bipush 42, 2) := dk_16 42 (dk_at dksX2_term_0 18 rfl rfl)
theorem dX2_term_20 : decode cX2_term 20 = .ok (.aload_n 1, 1) := dk_43 (dk_at dksX2_term_0 20 rfl rfl)
theorem dX2_term_21 : decode cX2_term 21 = .ok (.aload_n 0, 1) := dk_42 (dk_at dksX2_term_0 21 rfl rfl)
theorem dX2_term_22 : decode cX2_term 22 = .ok (.invokevirtual 119, 3) := dk_182 0 119 (dk_at dksX2_term_1 0 rfl rfl)
theorem dX2_term_25 : decode cX2_term 25 = .ok (.invokespecial 145, 3) := dk_183 0 145 (dk_at dksX2_term_1 3 rfl rfl)
theorem dX2_term_28 : decode cX2_term 28 = .ok (.astore_n 1, 1) := dk_76 (dk_at dksX2_term_1 6 rfl rfl)
theorem dX2_term_29 : decode cX2_term 29 = .ok (.goto (-24), 3) := dk_167 255 232 (dk_at dksX2_term_1 7 rfl rfl)
theorem dX2_term_32 : decode cX2_term 32 = .ok (.aload_n 1, 1) := dk_43 (dk_at dksX2_term_1 10 rfl rfl)
theorem dX2_term_33 : decode cX2_term 33 = .ok (.areturn, 1) := dk_176 (dk_at dksX2_term_1 11 rfl rfl)
abbrev cX2_one : ByteArray := prog_13_method_8_code
def yX2_one : MethodName := ⟨RX2, "one", "()LNameThrownBack$Node;"⟩
def dkwX2_one_6 : List UInt8 := [182, 0, 113, 187, 0, 131, 89, 3, 27, 183, 0, 133, 176, 132, 1, 1, 167, 255, 214, 42, 182, 0, 99, 191]
abbrev dktX2_one_6 : List UInt8 := dkwX2_one_6 ++ []
def dkwX2_one_5 : List UInt8 := [180, 0, 45, 190, 162, 0, 39, 42, 42, 180, 0, 45, 27, 50, 182, 0, 136, 154, 0, 6, 167, 0, 17, 42]
abbrev dktX2_one_5 : List UInt8 := dkwX2_one_5 ++ dktX2_one_6
def dkwX2_one_4 : List UInt8 := [180, 0, 67, 60, 42, 182, 0, 113, 187, 0, 131, 89, 27, 2, 183, 0, 133, 176, 3, 60, 27, 42]
abbrev dktX2_one_4 : List UInt8 := dkwX2_one_4 ++ dktX2_one_5
def dkwX2_one_3 : List UInt8 := [180, 0, 18, 4, 100, 181, 0, 18, 42, 182, 0, 113, 43, 176, 42, 180, 0, 67, 2, 159, 0, 22, 42]
abbrev dktX2_one_3 : List UInt8 := dkwX2_one_3 ++ dktX2_one_4
def dkwX2_one_2 : List UInt8 := [182, 0, 116, 42, 182, 0, 128, 76, 42, 180, 0, 70, 16, 41, 159, 0, 8, 42, 182, 0, 99, 191, 42, 89]
abbrev dktX2_one_2 : List UInt8 := dkwX2_one_2 ++ dktX2_one_3
def dkwX2_one_1 : List UInt8 := [100, 181, 0, 18, 187, 0, 123, 89, 3, 43, 183, 0, 125, 176, 42, 180, 0, 70, 16, 40, 160, 0, 42, 42]
abbrev dktX2_one_1 : List UInt8 := dkwX2_one_1 ++ dktX2_one_2
def dkwX2_one_0 : List UInt8 := [42, 180, 0, 70, 16, 45, 160, 0, 32, 42, 182, 0, 116, 42, 182, 0, 119, 76, 42, 89, 180, 0, 18, 4]
abbrev dktX2_one_0 : List UInt8 := dkwX2_one_0 ++ dktX2_one_1
theorem dksX2_one_0 : cX2_one.data.toList.drop 0 = dktX2_one_0 := by decide +kernel
theorem dksX2_one_1 : cX2_one.data.toList.drop 24 = dktX2_one_1 := dk_seg dksX2_one_0 24 rfl rfl
theorem dksX2_one_2 : cX2_one.data.toList.drop 48 = dktX2_one_2 := dk_seg dksX2_one_1 24 rfl rfl
theorem dksX2_one_3 : cX2_one.data.toList.drop 72 = dktX2_one_3 := dk_seg dksX2_one_2 24 rfl rfl
theorem dksX2_one_4 : cX2_one.data.toList.drop 95 = dktX2_one_4 := dk_seg dksX2_one_3 23 rfl rfl
theorem dksX2_one_5 : cX2_one.data.toList.drop 117 = dktX2_one_5 := dk_seg dksX2_one_4 22 rfl rfl
theorem dksX2_one_6 : cX2_one.data.toList.drop 141 = dktX2_one_6 := dk_seg dksX2_one_5 24 rfl rfl
theorem dX2_one_0 : decode cX2_one 0 = .ok (.aload_n 0, 1) := dk_42 (dk_at dksX2_one_0 0 rfl rfl)
theorem dX2_one_1 : decode cX2_one 1 = .ok (.getfield 70, 3) := dk_180 0 70 (dk_at dksX2_one_0 1 rfl rfl)
theorem dX2_one_4 : decode cX2_one 4 = .ok (.bipush 45, 2) := dk_16 45 (dk_at dksX2_one_0 4 rfl rfl)
theorem dX2_one_6 : decode cX2_one 6 = .ok (.if_icmp .ne 32, 3) := dk_160 0 32 (dk_at dksX2_one_0 6 rfl rfl)
theorem dX2_one_9 : decode cX2_one 9 = .ok (.aload_n 0, 1) := dk_42 (dk_at dksX2_one_0 9 rfl rfl)
theorem dX2_one_10 : decode cX2_one 10 = .ok (.invokevirtual 116, 3) := dk_182 0 116 (dk_at dksX2_one_0 10 rfl rfl)
theorem dX2_one_13 : decode cX2_one 13 = .ok (.aload_n 0, 1) := dk_42 (dk_at dksX2_one_0 13 rfl rfl)
theorem dX2_one_14 : decode cX2_one 14 = .ok (.invokevirtual 119, 3) := dk_182 0 119 (dk_at dksX2_one_0 14 rfl rfl)
theorem dX2_one_17 : decode cX2_one 17 = .ok (.astore_n 1, 1) := dk_76 (dk_at dksX2_one_0 17 rfl rfl)
theorem dX2_one_18 : decode cX2_one 18 = .ok (.aload_n 0, 1) := dk_42 (dk_at dksX2_one_0 18 rfl rfl)
theorem dX2_one_19 : decode cX2_one 19 = .ok (.dup, 1) := dk_89 (dk_at dksX2_one_0 19 rfl rfl)
theorem dX2_one_20 : decode cX2_one 20 = .ok (.getfield 18, 3) := dk_180 0 18 (dk_at dksX2_one_0 20 rfl rfl)
theorem dX2_one_23 : decode cX2_one 23 = .ok (.iconst 1, 1) := dk_4 (dk_at dksX2_one_0 23 rfl rfl)
theorem dX2_one_24 : decode cX2_one 24 = .ok (.isub, 1) := dk_100 (dk_at dksX2_one_1 0 rfl rfl)
theorem dX2_one_25 : decode cX2_one 25 = .ok (.putfield 18, 3) := dk_181 0 18 (dk_at dksX2_one_1 1 rfl rfl)
theorem dX2_one_28 : decode cX2_one 28 = .ok (.new 123, 3) := dk_187 0 123 (dk_at dksX2_one_1 4 rfl rfl)
theorem dX2_one_31 : decode cX2_one 31 = .ok (.dup, 1) := dk_89 (dk_at dksX2_one_1 7 rfl rfl)
theorem dX2_one_32 : decode cX2_one 32 = .ok (.iconst 0, 1) := dk_3 (dk_at dksX2_one_1 8 rfl rfl)
theorem dX2_one_33 : decode cX2_one 33 = .ok (.aload_n 1, 1) := dk_43 (dk_at dksX2_one_1 9 rfl rfl)
theorem dX2_one_34 : decode cX2_one 34 = .ok (.invokespecial 125, 3) := dk_183 0 125 (dk_at dksX2_one_1 10 rfl rfl)
theorem dX2_one_37 : decode cX2_one 37 = .ok (.areturn, 1) := dk_176 (dk_at dksX2_one_1 13 rfl rfl)
theorem dX2_one_38 : decode cX2_one 38 = .ok (.aload_n 0, 1) := dk_42 (dk_at dksX2_one_1 14 rfl rfl)
theorem dX2_one_39 : decode cX2_one 39 = .ok (.getfield 70, 3) := dk_180 0 70 (dk_at dksX2_one_1 15 rfl rfl)
theorem dX2_one_42 : decode cX2_one 42 = .ok (.bipush 40, 2) := dk_16 40 (dk_at dksX2_one_1 18 rfl rfl)
theorem dX2_one_44 : decode cX2_one 44 = .ok (.if_icmp .ne 42, 3) := dk_160 0 42 (dk_at dksX2_one_1 20 rfl rfl)
theorem dX2_one_47 : decode cX2_one 47 = .ok (.aload_n 0, 1) := dk_42 (dk_at dksX2_one_1 23 rfl rfl)
theorem dX2_one_48 : decode cX2_one 48 = .ok (.invokevirtual 116, 3) := dk_182 0 116 (dk_at dksX2_one_2 0 rfl rfl)
theorem dX2_one_51 : decode cX2_one 51 = .ok (.aload_n 0, 1) := dk_42 (dk_at dksX2_one_2 3 rfl rfl)
theorem dX2_one_52 : decode cX2_one 52 = .ok (.invokevirtual 128, 3) := dk_182 0 128 (dk_at dksX2_one_2 4 rfl rfl)
theorem dX2_one_55 : decode cX2_one 55 = .ok (.astore_n 1, 1) := dk_76 (dk_at dksX2_one_2 7 rfl rfl)
theorem dX2_one_56 : decode cX2_one 56 = .ok (.aload_n 0, 1) := dk_42 (dk_at dksX2_one_2 8 rfl rfl)
theorem dX2_one_57 : decode cX2_one 57 = .ok (.getfield 70, 3) := dk_180 0 70 (dk_at dksX2_one_2 9 rfl rfl)
theorem dX2_one_60 : decode cX2_one 60 = .ok (.bipush 41, 2) := dk_16 41 (dk_at dksX2_one_2 12 rfl rfl)
theorem dX2_one_62 : decode cX2_one 62 = .ok (.if_icmp .eq 8, 3) := dk_159 0 8 (dk_at dksX2_one_2 14 rfl rfl)
theorem dX2_one_65 : decode cX2_one 65 = .ok (.aload_n 0, 1) := dk_42 (dk_at dksX2_one_2 17 rfl rfl)
theorem dX2_one_66 : decode cX2_one 66 = .ok (.invokevirtual 99, 3) := dk_182 0 99 (dk_at dksX2_one_2 18 rfl rfl)
theorem dX2_one_69 : decode cX2_one 69 = .ok (.athrow, 1) := dk_191 (dk_at dksX2_one_2 21 rfl rfl)
theorem dX2_one_70 : decode cX2_one 70 = .ok (.aload_n 0, 1) := dk_42 (dk_at dksX2_one_2 22 rfl rfl)
theorem dX2_one_71 : decode cX2_one 71 = .ok (.dup, 1) := dk_89 (dk_at dksX2_one_2 23 rfl rfl)
theorem dX2_one_72 : decode cX2_one 72 = .ok (.getfield 18, 3) := dk_180 0 18 (dk_at dksX2_one_3 0 rfl rfl)
theorem dX2_one_75 : decode cX2_one 75 = .ok (.iconst 1, 1) := dk_4 (dk_at dksX2_one_3 3 rfl rfl)
theorem dX2_one_76 : decode cX2_one 76 = .ok (.isub, 1) := dk_100 (dk_at dksX2_one_3 4 rfl rfl)
theorem dX2_one_77 : decode cX2_one 77 = .ok (.putfield 18, 3) := dk_181 0 18 (dk_at dksX2_one_3 5 rfl rfl)
theorem dX2_one_80 : decode cX2_one 80 = .ok (.aload_n 0, 1) := dk_42 (dk_at dksX2_one_3 8 rfl rfl)
theorem dX2_one_81 : decode cX2_one 81 = .ok (.invokevirtual 113, 3) := dk_182 0 113 (dk_at dksX2_one_3 9 rfl rfl)
theorem dX2_one_84 : decode cX2_one 84 = .ok (.aload_n 1, 1) := dk_43 (dk_at dksX2_one_3 12 rfl rfl)
theorem dX2_one_85 : decode cX2_one 85 = .ok (.areturn, 1) := dk_176 (dk_at dksX2_one_3 13 rfl rfl)
theorem dX2_one_86 : decode cX2_one 86 = .ok (.aload_n 0, 1) := dk_42 (dk_at dksX2_one_3 14 rfl rfl)
theorem dX2_one_87 : decode cX2_one 87 = .ok (.getfield 67, 3) := dk_180 0 67 (dk_at dksX2_one_3 15 rfl rfl)
theorem dX2_one_90 : decode cX2_one 90 = .ok (.iconst (-1), 1) := dk_2 (dk_at dksX2_one_3 18 rfl rfl)
theorem dX2_one_91 : decode cX2_one 91 = .ok (.if_icmp .eq 22, 3) := dk_159 0 22 (dk_at dksX2_one_3 19 rfl rfl)
theorem dX2_one_94 : decode cX2_one 94 = .ok (.aload_n 0, 1) := dk_42 (dk_at dksX2_one_3 22 rfl rfl)
theorem dX2_one_95 : decode cX2_one 95 = .ok (.getfield 67, 3) := dk_180 0 67 (dk_at dksX2_one_4 0 rfl rfl)
theorem dX2_one_98 : decode cX2_one 98 = .ok (.istore_n 1, 1) := dk_60 (dk_at dksX2_one_4 3 rfl rfl)
theorem dX2_one_99 : decode cX2_one 99 = .ok (.aload_n 0, 1) := dk_42 (dk_at dksX2_one_4 4 rfl rfl)
theorem dX2_one_100 : decode cX2_one 100 = .ok (.invokevirtual 113, 3) := dk_182 0 113 (dk_at dksX2_one_4 5 rfl rfl)
theorem dX2_one_103 : decode cX2_one 103 = .ok (.new 131, 3) := dk_187 0 131 (dk_at dksX2_one_4 8 rfl rfl)
theorem dX2_one_106 : decode cX2_one 106 = .ok (.dup, 1) := dk_89 (dk_at dksX2_one_4 11 rfl rfl)
theorem dX2_one_107 : decode cX2_one 107 = .ok (.iload_n 1, 1) := dk_27 (dk_at dksX2_one_4 12 rfl rfl)
theorem dX2_one_108 : decode cX2_one 108 = .ok (.iconst (-1), 1) := dk_2 (dk_at dksX2_one_4 13 rfl rfl)
theorem dX2_one_109 : decode cX2_one 109 = .ok (.invokespecial 133, 3) := dk_183 0 133 (dk_at dksX2_one_4 14 rfl rfl)
theorem dX2_one_112 : decode cX2_one 112 = .ok (.areturn, 1) := dk_176 (dk_at dksX2_one_4 17 rfl rfl)
theorem dX2_one_113 : decode cX2_one 113 = .ok (.iconst 0, 1) := dk_3 (dk_at dksX2_one_4 18 rfl rfl)
theorem dX2_one_114 : decode cX2_one 114 = .ok (.istore_n 1, 1) := dk_60 (dk_at dksX2_one_4 19 rfl rfl)
theorem dX2_one_115 : decode cX2_one 115 = .ok (.iload_n 1, 1) := dk_27 (dk_at dksX2_one_4 20 rfl rfl)
theorem dX2_one_116 : decode cX2_one 116 = .ok (.aload_n 0, 1) := dk_42 (dk_at dksX2_one_4 21 rfl rfl)
theorem dX2_one_117 : decode cX2_one 117 = .ok (.getfield 45, 3) := dk_180 0 45 (dk_at dksX2_one_5 0 rfl rfl)
theorem dX2_one_120 : decode cX2_one 120 = .ok (.arraylength, 1) := dk_190 (dk_at dksX2_one_5 3 rfl rfl)
theorem dX2_one_121 : decode cX2_one 121 = .ok (.if_icmp .ge 39, 3) := dk_162 0 39 (dk_at dksX2_one_5 4 rfl rfl)
theorem dX2_one_124 : decode cX2_one 124 = .ok (.aload_n 0, 1) := dk_42 (dk_at dksX2_one_5 7 rfl rfl)
theorem dX2_one_125 : decode cX2_one 125 = .ok (.aload_n 0, 1) := dk_42 (dk_at dksX2_one_5 8 rfl rfl)
theorem dX2_one_126 : decode cX2_one 126 = .ok (.getfield 45, 3) := dk_180 0 45 (dk_at dksX2_one_5 9 rfl rfl)
theorem dX2_one_129 : decode cX2_one 129 = .ok (.iload_n 1, 1) := dk_27 (dk_at dksX2_one_5 12 rfl rfl)
theorem dX2_one_130 : decode cX2_one 130 = .ok (.aaload, 1) := dk_50 (dk_at dksX2_one_5 13 rfl rfl)
theorem dX2_one_131 : decode cX2_one 131 = .ok (.invokevirtual 136, 3) := dk_182 0 136 (dk_at dksX2_one_5 14 rfl rfl)
theorem dX2_one_134 : decode cX2_one 134 = .ok (.ifCond .ne 6, 3) := dk_154 0 6 (dk_at dksX2_one_5 17 rfl rfl)
theorem dX2_one_137 : decode cX2_one 137 = .ok (.goto 17, 3) := dk_167 0 17 (dk_at dksX2_one_5 20 rfl rfl)
theorem dX2_one_140 : decode cX2_one 140 = .ok (.aload_n 0, 1) := dk_42 (dk_at dksX2_one_5 23 rfl rfl)
theorem dX2_one_141 : decode cX2_one 141 = .ok (.invokevirtual 113, 3) := dk_182 0 113 (dk_at dksX2_one_6 0 rfl rfl)
theorem dX2_one_144 : decode cX2_one 144 = .ok (.new 131, 3) := dk_187 0 131 (dk_at dksX2_one_6 3 rfl rfl)
theorem dX2_one_147 : decode cX2_one 147 = .ok (.dup, 1) := dk_89 (dk_at dksX2_one_6 6 rfl rfl)
theorem dX2_one_148 : decode cX2_one 148 = .ok (.iconst 0, 1) := dk_3 (dk_at dksX2_one_6 7 rfl rfl)
theorem dX2_one_149 : decode cX2_one 149 = .ok (.iload_n 1, 1) := dk_27 (dk_at dksX2_one_6 8 rfl rfl)
theorem dX2_one_150 : decode cX2_one 150 = .ok (.invokespecial 133, 3) := dk_183 0 133 (dk_at dksX2_one_6 9 rfl rfl)
theorem dX2_one_153 : decode cX2_one 153 = .ok (.areturn, 1) := dk_176 (dk_at dksX2_one_6 12 rfl rfl)
theorem dX2_one_154 : decode cX2_one 154 = .ok (.iinc 1 1, 3) := dk_132 1 1 (dk_at dksX2_one_6 13 rfl rfl)
theorem dX2_one_157 : decode cX2_one 157 = .ok (.goto (-42), 3) := dk_167 255 214 (dk_at dksX2_one_6 16 rfl rfl)
theorem dX2_one_160 : decode cX2_one 160 = .ok (.aload_n 0, 1) := dk_42 (dk_at dksX2_one_6 19 rfl rfl)
theorem dX2_one_161 : decode cX2_one 161 = .ok (.invokevirtual 99, 3) := dk_182 0 99 (dk_at dksX2_one_6 20 rfl rfl)
theorem dX2_one_164 : decode cX2_one 164 = .ok (.athrow, 1) := dk_191 (dk_at dksX2_one_6 23 rfl rfl)
abbrev cX2_takes : ByteArray := prog_13_method_6_code
def yX2_takes : MethodName := ⟨RX2, "takes", "(I)Z"⟩
def dkwX2_takes_0 : List UInt8 := [42, 180, 0, 70, 27, 159, 0, 5, 3, 172, 42, 182, 0, 113, 4, 172]
abbrev dktX2_takes_0 : List UInt8 := dkwX2_takes_0 ++ []
theorem dksX2_takes_0 : cX2_takes.data.toList.drop 0 = dktX2_takes_0 := by decide +kernel
theorem dX2_takes_0 : decode cX2_takes 0 = .ok (.aload_n 0, 1) := dk_42 (dk_at dksX2_takes_0 0 rfl rfl)
theorem dX2_takes_1 : decode cX2_takes 1 = .ok (.getfield 70, 3) := dk_180 0 70 (dk_at dksX2_takes_0 1 rfl rfl)
theorem dX2_takes_4 : decode cX2_takes 4 = .ok (.iload_n 1, 1) := dk_27 (dk_at dksX2_takes_0 4 rfl rfl)
theorem dX2_takes_5 : decode cX2_takes 5 = .ok (.if_icmp .eq 5, 3) := dk_159 0 5 (dk_at dksX2_takes_0 5 rfl rfl)
theorem dX2_takes_8 : decode cX2_takes 8 = .ok (.iconst 0, 1) := dk_3 (dk_at dksX2_takes_0 8 rfl rfl)
theorem dX2_takes_9 : decode cX2_takes 9 = .ok (.ireturn, 1) := dk_172 (dk_at dksX2_takes_0 9 rfl rfl)
theorem dX2_takes_10 : decode cX2_takes 10 = .ok (.aload_n 0, 1) := dk_42 (dk_at dksX2_takes_0 10 rfl rfl)
theorem dX2_takes_11 : decode cX2_takes 11 = .ok (.invokevirtual 113, 3) := dk_182 0 113 (dk_at dksX2_takes_0 11 rfl rfl)
theorem dX2_takes_14 : decode cX2_takes 14 = .ok (.iconst 1, 1) := dk_4 (dk_at dksX2_takes_0 14 rfl rfl)
theorem dX2_takes_15 : decode cX2_takes 15 = .ok (.ireturn, 1) := dk_172 (dk_at dksX2_takes_0 15 rfl rfl)

abbrev cX3_init : ByteArray := prog_2_method_1_code
def yX3_init : MethodName := ⟨RX3, "<init>", "(I)V"⟩
def dkwX3_init_0 : List UInt8 := [42, 1, 1, 3, 3, 183, 0, 1, 42, 27, 181, 0, 7, 177]
abbrev dktX3_init_0 : List UInt8 := dkwX3_init_0 ++ []
theorem dksX3_init_0 : cX3_init.data.toList.drop 0 = dktX3_init_0 := by decide +kernel
theorem dX3_init_0 : decode cX3_init 0 = .ok (.aload_n 0, 1) := dk_42 (dk_at dksX3_init_0 0 rfl rfl)
theorem dX3_init_1 : decode cX3_init 1 = .ok (.aconst_null, 1) := dk_1 (dk_at dksX3_init_0 1 rfl rfl)
theorem dX3_init_2 : decode cX3_init 2 = .ok (.aconst_null, 1) := dk_1 (dk_at dksX3_init_0 2 rfl rfl)
theorem dX3_init_3 : decode cX3_init 3 = .ok (.iconst 0, 1) := dk_3 (dk_at dksX3_init_0 3 rfl rfl)
theorem dX3_init_4 : decode cX3_init 4 = .ok (.iconst 0, 1) := dk_3 (dk_at dksX3_init_0 4 rfl rfl)
theorem dX3_init_5 : decode cX3_init 5 = .ok (.invokespecial 1, 3) := dk_183 0 1 (dk_at dksX3_init_0 5 rfl rfl)
theorem dX3_init_8 : decode cX3_init 8 = .ok (.aload_n 0, 1) := dk_42 (dk_at dksX3_init_0 8 rfl rfl)
theorem dX3_init_9 : decode cX3_init 9 = .ok (.iload_n 1, 1) := dk_27 (dk_at dksX3_init_0 9 rfl rfl)
theorem dX3_init_10 : decode cX3_init 10 = .ok (.putfield 7, 3) := dk_181 0 7 (dk_at dksX3_init_0 10 rfl rfl)
theorem dX3_init_13 : decode cX3_init 13 = .ok (.return_, 1) := dk_177 (dk_at dksX3_init_0 13 rfl rfl)

abbrev cX4_init : ByteArray := prog_12_method_1_code
def yX4_init : MethodName := ⟨RX4, "<init>", "(ZLNameThrownBack$Node;)V"⟩
def dkwX4_init_0 : List UInt8 := [42, 183, 0, 1, 42, 27, 181, 0, 7, 42, 44, 181, 0, 13, 177]
abbrev dktX4_init_0 : List UInt8 := dkwX4_init_0 ++ []
theorem dksX4_init_0 : cX4_init.data.toList.drop 0 = dktX4_init_0 := by decide +kernel
theorem dX4_init_0 : decode cX4_init 0 = .ok (.aload_n 0, 1) := dk_42 (dk_at dksX4_init_0 0 rfl rfl)
theorem dX4_init_1 : decode cX4_init 1 = .ok (.invokespecial 1, 3) := dk_183 0 1 (dk_at dksX4_init_0 1 rfl rfl)
theorem dX4_init_4 : decode cX4_init 4 = .ok (.aload_n 0, 1) := dk_42 (dk_at dksX4_init_0 4 rfl rfl)
theorem dX4_init_5 : decode cX4_init 5 = .ok (.iload_n 1, 1) := dk_27 (dk_at dksX4_init_0 5 rfl rfl)
theorem dX4_init_6 : decode cX4_init 6 = .ok (.putfield 7, 3) := dk_181 0 7 (dk_at dksX4_init_0 6 rfl rfl)
theorem dX4_init_9 : decode cX4_init 9 = .ok (.aload_n 0, 1) := dk_42 (dk_at dksX4_init_0 9 rfl rfl)
theorem dX4_init_10 : decode cX4_init 10 = .ok (.aload_n 2, 1) := dk_44 (dk_at dksX4_init_0 10 rfl rfl)
theorem dX4_init_11 : decode cX4_init 11 = .ok (.putfield 13, 3) := dk_181 0 13 (dk_at dksX4_init_0 11 rfl rfl)
theorem dX4_init_14 : decode cX4_init 14 = .ok (.return_, 1) := dk_177 (dk_at dksX4_init_0 14 rfl rfl)
abbrev cX4_worth : ByteArray := prog_12_method_2_code
def yX4_worth : MethodName := ⟨RX4, "worth", "([I)I"⟩
def dkwX4_worth_1 : List UInt8 := [154, 0, 7, 4, 167, 0, 4, 3, 172]
abbrev dktX4_worth_1 : List UInt8 := dkwX4_worth_1 ++ []
def dkwX4_worth_0 : List UInt8 := [42, 180, 0, 13, 43, 185, 0, 17, 2, 0, 61, 42, 180, 0, 7, 154, 0, 8, 28, 116, 167, 0, 12, 28]
abbrev dktX4_worth_0 : List UInt8 := dkwX4_worth_0 ++ dktX4_worth_1
theorem dksX4_worth_0 : cX4_worth.data.toList.drop 0 = dktX4_worth_0 := by decide +kernel
theorem dksX4_worth_1 : cX4_worth.data.toList.drop 24 = dktX4_worth_1 := dk_seg dksX4_worth_0 24 rfl rfl
theorem dX4_worth_0 : decode cX4_worth 0 = .ok (.aload_n 0, 1) := dk_42 (dk_at dksX4_worth_0 0 rfl rfl)
theorem dX4_worth_1 : decode cX4_worth 1 = .ok (.getfield 13, 3) := dk_180 0 13 (dk_at dksX4_worth_0 1 rfl rfl)
theorem dX4_worth_4 : decode cX4_worth 4 = .ok (.aload_n 1, 1) := dk_43 (dk_at dksX4_worth_0 4 rfl rfl)
theorem dX4_worth_5 : decode cX4_worth 5 = .ok (.invokeinterface 17 2, 5) := by decide +kernel
theorem dX4_worth_10 : decode cX4_worth 10 = .ok (.istore_n 2, 1) := dk_61 (dk_at dksX4_worth_0 10 rfl rfl)
theorem dX4_worth_11 : decode cX4_worth 11 = .ok (.aload_n 0, 1) := dk_42 (dk_at dksX4_worth_0 11 rfl rfl)
theorem dX4_worth_12 : decode cX4_worth 12 = .ok (.getfield 7, 3) := dk_180 0 7 (dk_at dksX4_worth_0 12 rfl rfl)
theorem dX4_worth_15 : decode cX4_worth 15 = .ok (.ifCond .ne 8, 3) := dk_154 0 8 (dk_at dksX4_worth_0 15 rfl rfl)
theorem dX4_worth_18 : decode cX4_worth 18 = .ok (.iload_n 2, 1) := dk_28 (dk_at dksX4_worth_0 18 rfl rfl)
theorem dX4_worth_19 : decode cX4_worth 19 = .ok (.ineg, 1) := dk_116 (dk_at dksX4_worth_0 19 rfl rfl)
theorem dX4_worth_20 : decode cX4_worth 20 = .ok (.goto 12, 3) := dk_167 0 12 (dk_at dksX4_worth_0 20 rfl rfl)
theorem dX4_worth_23 : decode cX4_worth 23 = .ok (.iload_n 2, 1) := dk_28 (dk_at dksX4_worth_0 23 rfl rfl)
theorem dX4_worth_24 : decode cX4_worth 24 = .ok (.ifCond .ne 7, 3) := dk_154 0 7 (dk_at dksX4_worth_1 0 rfl rfl)
theorem dX4_worth_27 : decode cX4_worth 27 = .ok (.iconst 1, 1) := dk_4 (dk_at dksX4_worth_1 3 rfl rfl)
theorem dX4_worth_28 : decode cX4_worth 28 = .ok (.goto 4, 3) := dk_167 0 4 (dk_at dksX4_worth_1 4 rfl rfl)
theorem dX4_worth_31 : decode cX4_worth 31 = .ok (.iconst 0, 1) := dk_3 (dk_at dksX4_worth_1 7 rfl rfl)
theorem dX4_worth_32 : decode cX4_worth 32 = .ok (.ireturn, 1) := dk_172 (dk_at dksX4_worth_1 8 rfl rfl)

abbrev cX5_init : ByteArray := prog_6_method_1_code
def yX5_init : MethodName := ⟨RX5, "<init>", "(II)V"⟩
def dkwX5_init_0 : List UInt8 := [42, 183, 0, 3, 42, 27, 181, 0, 9, 42, 28, 181, 0, 15, 177]
abbrev dktX5_init_0 : List UInt8 := dkwX5_init_0 ++ []
theorem dksX5_init_0 : cX5_init.data.toList.drop 0 = dktX5_init_0 := by decide +kernel
theorem dX5_init_0 : decode cX5_init 0 = .ok (.aload_n 0, 1) := dk_42 (dk_at dksX5_init_0 0 rfl rfl)
theorem dX5_init_1 : decode cX5_init 1 = .ok (.invokespecial 3, 3) := dk_183 0 3 (dk_at dksX5_init_0 1 rfl rfl)
theorem dX5_init_4 : decode cX5_init 4 = .ok (.aload_n 0, 1) := dk_42 (dk_at dksX5_init_0 4 rfl rfl)
theorem dX5_init_5 : decode cX5_init 5 = .ok (.iload_n 1, 1) := dk_27 (dk_at dksX5_init_0 5 rfl rfl)
theorem dX5_init_6 : decode cX5_init 6 = .ok (.putfield 9, 3) := dk_181 0 9 (dk_at dksX5_init_0 6 rfl rfl)
theorem dX5_init_9 : decode cX5_init 9 = .ok (.aload_n 0, 1) := dk_42 (dk_at dksX5_init_0 9 rfl rfl)
theorem dX5_init_10 : decode cX5_init 10 = .ok (.iload_n 2, 1) := dk_28 (dk_at dksX5_init_0 10 rfl rfl)
theorem dX5_init_11 : decode cX5_init 11 = .ok (.putfield 15, 3) := dk_181 0 15 (dk_at dksX5_init_0 11 rfl rfl)
theorem dX5_init_14 : decode cX5_init 14 = .ok (.return_, 1) := dk_177 (dk_at dksX5_init_0 14 rfl rfl)
abbrev cX5_worth : ByteArray := prog_6_method_2_code
def yX5_worth : MethodName := ⟨RX5, "worth", "([I)I"⟩
def dkwX5_worth_0 : List UInt8 := [42, 180, 0, 15, 2, 160, 0, 10, 42, 180, 0, 9, 167, 0, 9, 43, 42, 180, 0, 15, 46, 172]
abbrev dktX5_worth_0 : List UInt8 := dkwX5_worth_0 ++ []
theorem dksX5_worth_0 : cX5_worth.data.toList.drop 0 = dktX5_worth_0 := by decide +kernel
theorem dX5_worth_0 : decode cX5_worth 0 = .ok (.aload_n 0, 1) := dk_42 (dk_at dksX5_worth_0 0 rfl rfl)
theorem dX5_worth_1 : decode cX5_worth 1 = .ok (.getfield 15, 3) := dk_180 0 15 (dk_at dksX5_worth_0 1 rfl rfl)
theorem dX5_worth_4 : decode cX5_worth 4 = .ok (.iconst (-1), 1) := dk_2 (dk_at dksX5_worth_0 4 rfl rfl)
theorem dX5_worth_5 : decode cX5_worth 5 = .ok (.if_icmp .ne 10, 3) := dk_160 0 10 (dk_at dksX5_worth_0 5 rfl rfl)
theorem dX5_worth_8 : decode cX5_worth 8 = .ok (.aload_n 0, 1) := dk_42 (dk_at dksX5_worth_0 8 rfl rfl)
theorem dX5_worth_9 : decode cX5_worth 9 = .ok (.getfield 9, 3) := dk_180 0 9 (dk_at dksX5_worth_0 9 rfl rfl)
theorem dX5_worth_12 : decode cX5_worth 12 = .ok (.goto 9, 3) := dk_167 0 9 (dk_at dksX5_worth_0 12 rfl rfl)
theorem dX5_worth_15 : decode cX5_worth 15 = .ok (.aload_n 1, 1) := dk_43 (dk_at dksX5_worth_0 15 rfl rfl)
theorem dX5_worth_16 : decode cX5_worth 16 = .ok (.aload_n 0, 1) := dk_42 (dk_at dksX5_worth_0 16 rfl rfl)
theorem dX5_worth_17 : decode cX5_worth 17 = .ok (.getfield 15, 3) := dk_180 0 15 (dk_at dksX5_worth_0 17 rfl rfl)
theorem dX5_worth_20 : decode cX5_worth 20 = .ok (.iaload, 1) := dk_46 (dk_at dksX5_worth_0 20 rfl rfl)
theorem dX5_worth_21 : decode cX5_worth 21 = .ok (.ireturn, 1) := dk_172 (dk_at dksX5_worth_0 21 rfl rfl)

abbrev cX6_init : ByteArray := prog_16_method_1_code
def yX6_init : MethodName := ⟨RX6, "<init>", "(ILNameThrownBack$Node;LNameThrownBack$Node;)V"⟩
def dkwX6_init_0 : List UInt8 := [42, 183, 0, 1, 42, 27, 181, 0, 7, 42, 44, 181, 0, 13, 42, 45, 181, 0, 17, 177]
abbrev dktX6_init_0 : List UInt8 := dkwX6_init_0 ++ []
theorem dksX6_init_0 : cX6_init.data.toList.drop 0 = dktX6_init_0 := by decide +kernel
theorem dX6_init_0 : decode cX6_init 0 = .ok (.aload_n 0, 1) := dk_42 (dk_at dksX6_init_0 0 rfl rfl)
theorem dX6_init_1 : decode cX6_init 1 = .ok (.invokespecial 1, 3) := dk_183 0 1 (dk_at dksX6_init_0 1 rfl rfl)
theorem dX6_init_4 : decode cX6_init 4 = .ok (.aload_n 0, 1) := dk_42 (dk_at dksX6_init_0 4 rfl rfl)
theorem dX6_init_5 : decode cX6_init 5 = .ok (.iload_n 1, 1) := dk_27 (dk_at dksX6_init_0 5 rfl rfl)
theorem dX6_init_6 : decode cX6_init 6 = .ok (.putfield 7, 3) := dk_181 0 7 (dk_at dksX6_init_0 6 rfl rfl)
theorem dX6_init_9 : decode cX6_init 9 = .ok (.aload_n 0, 1) := dk_42 (dk_at dksX6_init_0 9 rfl rfl)
theorem dX6_init_10 : decode cX6_init 10 = .ok (.aload_n 2, 1) := dk_44 (dk_at dksX6_init_0 10 rfl rfl)
theorem dX6_init_11 : decode cX6_init 11 = .ok (.putfield 13, 3) := dk_181 0 13 (dk_at dksX6_init_0 11 rfl rfl)
theorem dX6_init_14 : decode cX6_init 14 = .ok (.aload_n 0, 1) := dk_42 (dk_at dksX6_init_0 14 rfl rfl)
theorem dX6_init_15 : decode cX6_init 15 = .ok (.aload_n 3, 1) := dk_45 (dk_at dksX6_init_0 15 rfl rfl)
theorem dX6_init_16 : decode cX6_init 16 = .ok (.putfield 17, 3) := dk_181 0 17 (dk_at dksX6_init_0 16 rfl rfl)
theorem dX6_init_19 : decode cX6_init 19 = .ok (.return_, 1) := dk_177 (dk_at dksX6_init_0 19 rfl rfl)
abbrev cX6_worth : ByteArray := prog_16_method_2_code
def yX6_worth : MethodName := ⟨RX6, "worth", "([I)I"⟩
def dkwX6_worth_5 : List UInt8 := [28, 154, 0, 7, 29, 153, 0, 7, 4, 167, 0, 4, 3, 172]
abbrev dktX6_worth_5 : List UInt8 := dkwX6_worth_5 ++ []
def dkwX6_worth_4 : List UInt8 := [29, 160, 0, 7, 4, 167, 0, 4, 3, 172, 28, 153, 0, 11, 29, 153, 0, 7, 4, 167, 0, 4, 3, 172]
abbrev dktX6_worth_4 : List UInt8 := dkwX6_worth_4 ++ dktX6_worth_5
def dkwX6_worth_3 : List UInt8 := [28, 29, 96, 172, 28, 29, 100, 172, 28, 29, 104, 172, 28, 29, 162, 0, 7, 4, 167, 0, 4, 3, 172, 28]
abbrev dktX6_worth_3 : List UInt8 := dkwX6_worth_3 ++ dktX6_worth_4
def dkwX6_worth_2 : List UInt8 := [171, 0, 0, 0, 0, 106, 0, 0, 0, 6, 0, 0, 0, 38, 0, 0, 0, 92, 0, 0, 0, 42, 0, 0, 0, 66, 0, 0, 0, 43, 0, 0, 0, 58, 0, 0, 0, 45, 0, 0, 0, 62, 0, 0, 0, 60, 0, 0, 0, 70, 0, 0, 0, 61, 0, 0, 0, 81]
abbrev dktX6_worth_2 : List UInt8 := dkwX6_worth_2 ++ dktX6_worth_3
def dkwX6_worth_1 : List UInt8 := [180, 0, 7]
abbrev dktX6_worth_1 : List UInt8 := dkwX6_worth_1 ++ dktX6_worth_2
def dkwX6_worth_0 : List UInt8 := [42, 180, 0, 13, 43, 185, 0, 20, 2, 0, 61, 42, 180, 0, 17, 43, 185, 0, 20, 2, 0, 62, 42]
abbrev dktX6_worth_0 : List UInt8 := dkwX6_worth_0 ++ dktX6_worth_1
theorem dksX6_worth_0 : cX6_worth.data.toList.drop 0 = dktX6_worth_0 := by decide +kernel
theorem dksX6_worth_1 : cX6_worth.data.toList.drop 23 = dktX6_worth_1 := dk_seg dksX6_worth_0 23 rfl rfl
theorem dksX6_worth_2 : cX6_worth.data.toList.drop 26 = dktX6_worth_2 := dk_seg dksX6_worth_1 3 rfl rfl
theorem dksX6_worth_3 : cX6_worth.data.toList.drop 84 = dktX6_worth_3 := dk_seg dksX6_worth_2 58 rfl rfl
theorem dksX6_worth_4 : cX6_worth.data.toList.drop 108 = dktX6_worth_4 := dk_seg dksX6_worth_3 24 rfl rfl
theorem dksX6_worth_5 : cX6_worth.data.toList.drop 132 = dktX6_worth_5 := dk_seg dksX6_worth_4 24 rfl rfl
theorem dX6_worth_0 : decode cX6_worth 0 = .ok (.aload_n 0, 1) := dk_42 (dk_at dksX6_worth_0 0 rfl rfl)
theorem dX6_worth_1 : decode cX6_worth 1 = .ok (.getfield 13, 3) := dk_180 0 13 (dk_at dksX6_worth_0 1 rfl rfl)
theorem dX6_worth_4 : decode cX6_worth 4 = .ok (.aload_n 1, 1) := dk_43 (dk_at dksX6_worth_0 4 rfl rfl)
theorem dX6_worth_5 : decode cX6_worth 5 = .ok (.invokeinterface 20 2, 5) := by decide +kernel
theorem dX6_worth_10 : decode cX6_worth 10 = .ok (.istore_n 2, 1) := dk_61 (dk_at dksX6_worth_0 10 rfl rfl)
theorem dX6_worth_11 : decode cX6_worth 11 = .ok (.aload_n 0, 1) := dk_42 (dk_at dksX6_worth_0 11 rfl rfl)
theorem dX6_worth_12 : decode cX6_worth 12 = .ok (.getfield 17, 3) := dk_180 0 17 (dk_at dksX6_worth_0 12 rfl rfl)
theorem dX6_worth_15 : decode cX6_worth 15 = .ok (.aload_n 1, 1) := dk_43 (dk_at dksX6_worth_0 15 rfl rfl)
theorem dX6_worth_16 : decode cX6_worth 16 = .ok (.invokeinterface 20 2, 5) := by decide +kernel
theorem dX6_worth_21 : decode cX6_worth 21 = .ok (.istore_n 3, 1) := dk_62 (dk_at dksX6_worth_0 21 rfl rfl)
theorem dX6_worth_22 : decode cX6_worth 22 = .ok (.aload_n 0, 1) := dk_42 (dk_at dksX6_worth_0 22 rfl rfl)
theorem dX6_worth_23 : decode cX6_worth 23 = .ok (.getfield 7, 3) := dk_180 0 7 (dk_at dksX6_worth_1 0 rfl rfl)
theorem dX6_worth_26 : decode cX6_worth 26 = .ok (.lookupswitch 106 #[(38, 92), (42, 66), (43, 58), (45, 62), (60, 70), (61, 81)], 58) := by decide +kernel
theorem dX6_worth_84 : decode cX6_worth 84 = .ok (.iload_n 2, 1) := dk_28 (dk_at dksX6_worth_3 0 rfl rfl)
theorem dX6_worth_85 : decode cX6_worth 85 = .ok (.iload_n 3, 1) := dk_29 (dk_at dksX6_worth_3 1 rfl rfl)
theorem dX6_worth_86 : decode cX6_worth 86 = .ok (.iadd, 1) := dk_96 (dk_at dksX6_worth_3 2 rfl rfl)
theorem dX6_worth_87 : decode cX6_worth 87 = .ok (.ireturn, 1) := dk_172 (dk_at dksX6_worth_3 3 rfl rfl)
theorem dX6_worth_88 : decode cX6_worth 88 = .ok (.iload_n 2, 1) := dk_28 (dk_at dksX6_worth_3 4 rfl rfl)
theorem dX6_worth_89 : decode cX6_worth 89 = .ok (.iload_n 3, 1) := dk_29 (dk_at dksX6_worth_3 5 rfl rfl)
theorem dX6_worth_90 : decode cX6_worth 90 = .ok (.isub, 1) := dk_100 (dk_at dksX6_worth_3 6 rfl rfl)
theorem dX6_worth_91 : decode cX6_worth 91 = .ok (.ireturn, 1) := dk_172 (dk_at dksX6_worth_3 7 rfl rfl)
theorem dX6_worth_92 : decode cX6_worth 92 = .ok (.iload_n 2, 1) := dk_28 (dk_at dksX6_worth_3 8 rfl rfl)
theorem dX6_worth_93 : decode cX6_worth 93 = .ok (.iload_n 3, 1) := dk_29 (dk_at dksX6_worth_3 9 rfl rfl)
theorem dX6_worth_94 : decode cX6_worth 94 = .ok (.imul, 1) := dk_104 (dk_at dksX6_worth_3 10 rfl rfl)
theorem dX6_worth_95 : decode cX6_worth 95 = .ok (.ireturn, 1) := dk_172 (dk_at dksX6_worth_3 11 rfl rfl)
theorem dX6_worth_96 : decode cX6_worth 96 = .ok (.iload_n 2, 1) := dk_28 (dk_at dksX6_worth_3 12 rfl rfl)
theorem dX6_worth_97 : decode cX6_worth 97 = .ok (.iload_n 3, 1) := dk_29 (dk_at dksX6_worth_3 13 rfl rfl)
theorem dX6_worth_98 : decode cX6_worth 98 = .ok (.if_icmp .ge 7, 3) := dk_162 0 7 (dk_at dksX6_worth_3 14 rfl rfl)
theorem dX6_worth_101 : decode cX6_worth 101 = .ok (.iconst 1, 1) := dk_4 (dk_at dksX6_worth_3 17 rfl rfl)
theorem dX6_worth_102 : decode cX6_worth 102 = .ok (.goto 4, 3) := dk_167 0 4 (dk_at dksX6_worth_3 18 rfl rfl)
theorem dX6_worth_105 : decode cX6_worth 105 = .ok (.iconst 0, 1) := dk_3 (dk_at dksX6_worth_3 21 rfl rfl)
theorem dX6_worth_106 : decode cX6_worth 106 = .ok (.ireturn, 1) := dk_172 (dk_at dksX6_worth_3 22 rfl rfl)
theorem dX6_worth_107 : decode cX6_worth 107 = .ok (.iload_n 2, 1) := dk_28 (dk_at dksX6_worth_3 23 rfl rfl)
theorem dX6_worth_108 : decode cX6_worth 108 = .ok (.iload_n 3, 1) := dk_29 (dk_at dksX6_worth_4 0 rfl rfl)
theorem dX6_worth_109 : decode cX6_worth 109 = .ok (.if_icmp .ne 7, 3) := dk_160 0 7 (dk_at dksX6_worth_4 1 rfl rfl)
theorem dX6_worth_112 : decode cX6_worth 112 = .ok (.iconst 1, 1) := dk_4 (dk_at dksX6_worth_4 4 rfl rfl)
theorem dX6_worth_113 : decode cX6_worth 113 = .ok (.goto 4, 3) := dk_167 0 4 (dk_at dksX6_worth_4 5 rfl rfl)
theorem dX6_worth_116 : decode cX6_worth 116 = .ok (.iconst 0, 1) := dk_3 (dk_at dksX6_worth_4 8 rfl rfl)
theorem dX6_worth_117 : decode cX6_worth 117 = .ok (.ireturn, 1) := dk_172 (dk_at dksX6_worth_4 9 rfl rfl)
theorem dX6_worth_118 : decode cX6_worth 118 = .ok (.iload_n 2, 1) := dk_28 (dk_at dksX6_worth_4 10 rfl rfl)
theorem dX6_worth_119 : decode cX6_worth 119 = .ok (.ifCond .eq 11, 3) := dk_153 0 11 (dk_at dksX6_worth_4 11 rfl rfl)
theorem dX6_worth_122 : decode cX6_worth 122 = .ok (.iload_n 3, 1) := dk_29 (dk_at dksX6_worth_4 14 rfl rfl)
theorem dX6_worth_123 : decode cX6_worth 123 = .ok (.ifCond .eq 7, 3) := dk_153 0 7 (dk_at dksX6_worth_4 15 rfl rfl)
theorem dX6_worth_126 : decode cX6_worth 126 = .ok (.iconst 1, 1) := dk_4 (dk_at dksX6_worth_4 18 rfl rfl)
theorem dX6_worth_127 : decode cX6_worth 127 = .ok (.goto 4, 3) := dk_167 0 4 (dk_at dksX6_worth_4 19 rfl rfl)
theorem dX6_worth_130 : decode cX6_worth 130 = .ok (.iconst 0, 1) := dk_3 (dk_at dksX6_worth_4 22 rfl rfl)
theorem dX6_worth_131 : decode cX6_worth 131 = .ok (.ireturn, 1) := dk_172 (dk_at dksX6_worth_4 23 rfl rfl)
theorem dX6_worth_132 : decode cX6_worth 132 = .ok (.iload_n 2, 1) := dk_28 (dk_at dksX6_worth_5 0 rfl rfl)
theorem dX6_worth_133 : decode cX6_worth 133 = .ok (.ifCond .ne 7, 3) := dk_154 0 7 (dk_at dksX6_worth_5 1 rfl rfl)
theorem dX6_worth_136 : decode cX6_worth 136 = .ok (.iload_n 3, 1) := dk_29 (dk_at dksX6_worth_5 4 rfl rfl)
theorem dX6_worth_137 : decode cX6_worth 137 = .ok (.ifCond .eq 7, 3) := dk_153 0 7 (dk_at dksX6_worth_5 5 rfl rfl)
theorem dX6_worth_140 : decode cX6_worth 140 = .ok (.iconst 1, 1) := dk_4 (dk_at dksX6_worth_5 8 rfl rfl)
theorem dX6_worth_141 : decode cX6_worth 141 = .ok (.goto 4, 3) := dk_167 0 4 (dk_at dksX6_worth_5 9 rfl rfl)
theorem dX6_worth_144 : decode cX6_worth 144 = .ok (.iconst 0, 1) := dk_3 (dk_at dksX6_worth_5 12 rfl rfl)
theorem dX6_worth_145 : decode cX6_worth 145 = .ok (.ireturn, 1) := dk_172 (dk_at dksX6_worth_5 13 rfl rfl)

abbrev cX8_init : ByteArray := prog_3_method_1_code
def yX8_init : MethodName := ⟨RX8, "<init>", "(LNameThrownBack;II)V"⟩
def dkwX8_init_0 : List UInt8 := [42, 43, 181, 0, 1, 42, 183, 0, 7, 42, 28, 181, 0, 13, 42, 29, 181, 0, 17, 177]
abbrev dktX8_init_0 : List UInt8 := dkwX8_init_0 ++ []
theorem dksX8_init_0 : cX8_init.data.toList.drop 0 = dktX8_init_0 := by decide +kernel
theorem dX8_init_0 : decode cX8_init 0 = .ok (.aload_n 0, 1) := dk_42 (dk_at dksX8_init_0 0 rfl rfl)
theorem dX8_init_1 : decode cX8_init 1 = .ok (.aload_n 1, 1) := dk_43 (dk_at dksX8_init_0 1 rfl rfl)
theorem dX8_init_2 : decode cX8_init 2 = .ok (.putfield 1, 3) := dk_181 0 1 (dk_at dksX8_init_0 2 rfl rfl)
theorem dX8_init_5 : decode cX8_init 5 = .ok (.aload_n 0, 1) := dk_42 (dk_at dksX8_init_0 5 rfl rfl)
theorem dX8_init_6 : decode cX8_init 6 = .ok (.invokespecial 7, 3) := dk_183 0 7 (dk_at dksX8_init_0 6 rfl rfl)
theorem dX8_init_9 : decode cX8_init 9 = .ok (.aload_n 0, 1) := dk_42 (dk_at dksX8_init_0 9 rfl rfl)
theorem dX8_init_10 : decode cX8_init 10 = .ok (.iload_n 2, 1) := dk_28 (dk_at dksX8_init_0 10 rfl rfl)
theorem dX8_init_11 : decode cX8_init 11 = .ok (.putfield 13, 3) := dk_181 0 13 (dk_at dksX8_init_0 11 rfl rfl)
theorem dX8_init_14 : decode cX8_init 14 = .ok (.aload_n 0, 1) := dk_42 (dk_at dksX8_init_0 14 rfl rfl)
theorem dX8_init_15 : decode cX8_init 15 = .ok (.iload_n 3, 1) := dk_29 (dk_at dksX8_init_0 15 rfl rfl)
theorem dX8_init_16 : decode cX8_init 16 = .ok (.putfield 17, 3) := dk_181 0 17 (dk_at dksX8_init_0 16 rfl rfl)
theorem dX8_init_19 : decode cX8_init 19 = .ok (.return_, 1) := dk_177 (dk_at dksX8_init_0 19 rfl rfl)
abbrev cX8_kind : ByteArray := prog_3_method_2_code
def yX8_kind : MethodName := ⟨RX8, "kind", "()I"⟩
theorem dX8_kind_0 : decode cX8_kind 0 = .ok (.iconst 0, 1) := by decide +kernel
theorem dX8_kind_1 : decode cX8_kind 1 = .ok (.ireturn, 1) := by decide +kernel
abbrev cX8_takes : ByteArray := prog_3_method_5_code
def yX8_takes : MethodName := ⟨RX8, "takes", "(I)I"⟩
theorem dX8_takes_0 : decode cX8_takes 0 = .ok (.iload_n 1, 1) := by decide +kernel
theorem dX8_takes_1 : decode cX8_takes 1 = .ok (.ireturn, 1) := by decide +kernel
abbrev cX8_lets : ByteArray := prog_3_method_3_code
def yX8_lets : MethodName := ⟨RX8, "lets", "(II)I"⟩
def dkwX8_lets_0 : List UInt8 := [27, 28, 184, 0, 20, 172]
abbrev dktX8_lets_0 : List UInt8 := dkwX8_lets_0 ++ []
theorem dksX8_lets_0 : cX8_lets.data.toList.drop 0 = dktX8_lets_0 := by decide +kernel
theorem dX8_lets_0 : decode cX8_lets 0 = .ok (.iload_n 1, 1) := dk_27 (dk_at dksX8_lets_0 0 rfl rfl)
theorem dX8_lets_1 : decode cX8_lets 1 = .ok (.iload_n 2, 1) := dk_28 (dk_at dksX8_lets_0 1 rfl rfl)
theorem dX8_lets_2 : decode cX8_lets 2 = .ok (.invokestatic 20, 3) := dk_184 0 20 (dk_at dksX8_lets_0 2 rfl rfl)
theorem dX8_lets_5 : decode cX8_lets 5 = .ok (.ireturn, 1) := dk_172 (dk_at dksX8_lets_0 5 rfl rfl)
abbrev cX8_lucks : ByteArray := prog_3_method_4_code
def yX8_lucks : MethodName := ⟨RX8, "lucks", "(IZ)I"⟩
theorem dX8_lucks_0 : decode cX8_lucks 0 = .ok (.iload_n 1, 1) := by decide +kernel
theorem dX8_lucks_1 : decode cX8_lucks 1 = .ok (.ireturn, 1) := by decide +kernel

abbrev cX9_init : ByteArray := prog_17_method_1_code
def yX9_init : MethodName := ⟨RX9, "<init>", "(LNameThrownBack;II)V"⟩
def dkwX9_init_0 : List UInt8 := [42, 43, 181, 0, 1, 42, 43, 28, 29, 183, 0, 7, 177]
abbrev dktX9_init_0 : List UInt8 := dkwX9_init_0 ++ []
theorem dksX9_init_0 : cX9_init.data.toList.drop 0 = dktX9_init_0 := by decide +kernel
theorem dX9_init_0 : decode cX9_init 0 = .ok (.aload_n 0, 1) := dk_42 (dk_at dksX9_init_0 0 rfl rfl)
theorem dX9_init_1 : decode cX9_init 1 = .ok (.aload_n 1, 1) := dk_43 (dk_at dksX9_init_0 1 rfl rfl)
theorem dX9_init_2 : decode cX9_init 2 = .ok (.putfield 1, 3) := dk_181 0 1 (dk_at dksX9_init_0 2 rfl rfl)
theorem dX9_init_5 : decode cX9_init 5 = .ok (.aload_n 0, 1) := dk_42 (dk_at dksX9_init_0 5 rfl rfl)
theorem dX9_init_6 : decode cX9_init 6 = .ok (.aload_n 1, 1) := dk_43 (dk_at dksX9_init_0 6 rfl rfl)
theorem dX9_init_7 : decode cX9_init 7 = .ok (.iload_n 2, 1) := dk_28 (dk_at dksX9_init_0 7 rfl rfl)
theorem dX9_init_8 : decode cX9_init 8 = .ok (.iload_n 3, 1) := dk_29 (dk_at dksX9_init_0 8 rfl rfl)
theorem dX9_init_9 : decode cX9_init 9 = .ok (.invokespecial 7, 3) := dk_183 0 7 (dk_at dksX9_init_0 9 rfl rfl)
theorem dX9_init_12 : decode cX9_init 12 = .ok (.return_, 1) := dk_177 (dk_at dksX9_init_0 12 rfl rfl)
abbrev cX9_kind : ByteArray := prog_17_method_2_code
def yX9_kind : MethodName := ⟨RX9, "kind", "()I"⟩
theorem dX9_kind_0 : decode cX9_kind 0 = .ok (.iconst 1, 1) := by decide +kernel
theorem dX9_kind_1 : decode cX9_kind 1 = .ok (.ireturn, 1) := by decide +kernel
abbrev cX9_lets : ByteArray := prog_17_method_3_code
def yX9_lets : MethodName := ⟨RX9, "lets", "(II)I"⟩
def dkwX9_lets_0 : List UInt8 := [28, 4, 100, 42, 27, 28, 183, 0, 13, 100, 172]
abbrev dktX9_lets_0 : List UInt8 := dkwX9_lets_0 ++ []
theorem dksX9_lets_0 : cX9_lets.data.toList.drop 0 = dktX9_lets_0 := by decide +kernel
theorem dX9_lets_0 : decode cX9_lets 0 = .ok (.iload_n 2, 1) := dk_28 (dk_at dksX9_lets_0 0 rfl rfl)
theorem dX9_lets_1 : decode cX9_lets 1 = .ok (.iconst 1, 1) := dk_4 (dk_at dksX9_lets_0 1 rfl rfl)
theorem dX9_lets_2 : decode cX9_lets 2 = .ok (.isub, 1) := dk_100 (dk_at dksX9_lets_0 2 rfl rfl)
theorem dX9_lets_3 : decode cX9_lets 3 = .ok (.aload_n 0, 1) := dk_42 (dk_at dksX9_lets_0 3 rfl rfl)
theorem dX9_lets_4 : decode cX9_lets 4 = .ok (.iload_n 1, 1) := dk_27 (dk_at dksX9_lets_0 4 rfl rfl)
theorem dX9_lets_5 : decode cX9_lets 5 = .ok (.iload_n 2, 1) := dk_28 (dk_at dksX9_lets_0 5 rfl rfl)
theorem dX9_lets_6 : decode cX9_lets 6 = .ok (.invokespecial 13, 3) := dk_183 0 13 (dk_at dksX9_lets_0 6 rfl rfl)
theorem dX9_lets_9 : decode cX9_lets 9 = .ok (.isub, 1) := dk_100 (dk_at dksX9_lets_0 9 rfl rfl)
theorem dX9_lets_10 : decode cX9_lets 10 = .ok (.ireturn, 1) := dk_172 (dk_at dksX9_lets_0 10 rfl rfl)
abbrev cX9_lucks : ByteArray := prog_17_method_4_code
def yX9_lucks : MethodName := ⟨RX9, "lucks", "(IZ)I"⟩
def dkwX9_lucks_1 : List UInt8 := [172]
abbrev dktX9_lucks_1 : List UInt8 := dkwX9_lucks_1 ++ []
def dkwX9_lucks_0 : List UInt8 := [28, 153, 0, 12, 42, 27, 28, 183, 0, 17, 167, 0, 14, 42, 27, 28, 183, 0, 17, 42, 180, 0, 21, 100]
abbrev dktX9_lucks_0 : List UInt8 := dkwX9_lucks_0 ++ dktX9_lucks_1
theorem dksX9_lucks_0 : cX9_lucks.data.toList.drop 0 = dktX9_lucks_0 := by decide +kernel
theorem dksX9_lucks_1 : cX9_lucks.data.toList.drop 24 = dktX9_lucks_1 := dk_seg dksX9_lucks_0 24 rfl rfl
theorem dX9_lucks_0 : decode cX9_lucks 0 = .ok (.iload_n 2, 1) := dk_28 (dk_at dksX9_lucks_0 0 rfl rfl)
theorem dX9_lucks_1 : decode cX9_lucks 1 = .ok (.ifCond .eq 12, 3) := dk_153 0 12 (dk_at dksX9_lucks_0 1 rfl rfl)
theorem dX9_lucks_4 : decode cX9_lucks 4 = .ok (.aload_n 0, 1) := dk_42 (dk_at dksX9_lucks_0 4 rfl rfl)
theorem dX9_lucks_5 : decode cX9_lucks 5 = .ok (.iload_n 1, 1) := dk_27 (dk_at dksX9_lucks_0 5 rfl rfl)
theorem dX9_lucks_6 : decode cX9_lucks 6 = .ok (.iload_n 2, 1) := dk_28 (dk_at dksX9_lucks_0 6 rfl rfl)
theorem dX9_lucks_7 : decode cX9_lucks 7 = .ok (.invokespecial 17, 3) := dk_183 0 17 (dk_at dksX9_lucks_0 7 rfl rfl)
theorem dX9_lucks_10 : decode cX9_lucks 10 = .ok (.goto 14, 3) := dk_167 0 14 (dk_at dksX9_lucks_0 10 rfl rfl)
theorem dX9_lucks_13 : decode cX9_lucks 13 = .ok (.aload_n 0, 1) := dk_42 (dk_at dksX9_lucks_0 13 rfl rfl)
theorem dX9_lucks_14 : decode cX9_lucks 14 = .ok (.iload_n 1, 1) := dk_27 (dk_at dksX9_lucks_0 14 rfl rfl)
theorem dX9_lucks_15 : decode cX9_lucks 15 = .ok (.iload_n 2, 1) := dk_28 (dk_at dksX9_lucks_0 15 rfl rfl)
theorem dX9_lucks_16 : decode cX9_lucks 16 = .ok (.invokespecial 17, 3) := dk_183 0 17 (dk_at dksX9_lucks_0 16 rfl rfl)
theorem dX9_lucks_19 : decode cX9_lucks 19 = .ok (.aload_n 0, 1) := dk_42 (dk_at dksX9_lucks_0 19 rfl rfl)
theorem dX9_lucks_20 : decode cX9_lucks 20 = .ok (.getfield 21, 3) := dk_180 0 21 (dk_at dksX9_lucks_0 20 rfl rfl)
theorem dX9_lucks_23 : decode cX9_lucks 23 = .ok (.isub, 1) := dk_100 (dk_at dksX9_lucks_0 23 rfl rfl)
theorem dX9_lucks_24 : decode cX9_lucks 24 = .ok (.ireturn, 1) := dk_172 (dk_at dksX9_lucks_1 0 rfl rfl)

abbrev cX10_init : ByteArray := prog_7_method_1_code
def yX10_init : MethodName := ⟨RX10, "<init>", "(LNameThrownBack;II)V"⟩
def dkwX10_init_0 : List UInt8 := [42, 43, 181, 0, 1, 42, 43, 28, 29, 183, 0, 7, 177]
abbrev dktX10_init_0 : List UInt8 := dkwX10_init_0 ++ []
theorem dksX10_init_0 : cX10_init.data.toList.drop 0 = dktX10_init_0 := by decide +kernel
theorem dX10_init_0 : decode cX10_init 0 = .ok (.aload_n 0, 1) := dk_42 (dk_at dksX10_init_0 0 rfl rfl)
theorem dX10_init_1 : decode cX10_init 1 = .ok (.aload_n 1, 1) := dk_43 (dk_at dksX10_init_0 1 rfl rfl)
theorem dX10_init_2 : decode cX10_init 2 = .ok (.putfield 1, 3) := dk_181 0 1 (dk_at dksX10_init_0 2 rfl rfl)
theorem dX10_init_5 : decode cX10_init 5 = .ok (.aload_n 0, 1) := dk_42 (dk_at dksX10_init_0 5 rfl rfl)
theorem dX10_init_6 : decode cX10_init 6 = .ok (.aload_n 1, 1) := dk_43 (dk_at dksX10_init_0 6 rfl rfl)
theorem dX10_init_7 : decode cX10_init 7 = .ok (.iload_n 2, 1) := dk_28 (dk_at dksX10_init_0 7 rfl rfl)
theorem dX10_init_8 : decode cX10_init 8 = .ok (.iload_n 3, 1) := dk_29 (dk_at dksX10_init_0 8 rfl rfl)
theorem dX10_init_9 : decode cX10_init 9 = .ok (.invokespecial 7, 3) := dk_183 0 7 (dk_at dksX10_init_0 9 rfl rfl)
theorem dX10_init_12 : decode cX10_init 12 = .ok (.return_, 1) := dk_177 (dk_at dksX10_init_0 12 rfl rfl)
abbrev cX10_kind : ByteArray := prog_7_method_2_code
def yX10_kind : MethodName := ⟨RX10, "kind", "()I"⟩
theorem dX10_kind_0 : decode cX10_kind 0 = .ok (.iconst 2, 1) := by decide +kernel
theorem dX10_kind_1 : decode cX10_kind 1 = .ok (.ireturn, 1) := by decide +kernel
abbrev cX10_takes : ByteArray := prog_7_method_3_code
def yX10_takes : MethodName := ⟨RX10, "takes", "(I)I"⟩
def dkwX10_takes_0 : List UInt8 := [42, 27, 183, 0, 13, 42, 180, 0, 17, 96, 172]
abbrev dktX10_takes_0 : List UInt8 := dkwX10_takes_0 ++ []
theorem dksX10_takes_0 : cX10_takes.data.toList.drop 0 = dktX10_takes_0 := by decide +kernel
theorem dX10_takes_0 : decode cX10_takes 0 = .ok (.aload_n 0, 1) := dk_42 (dk_at dksX10_takes_0 0 rfl rfl)
theorem dX10_takes_1 : decode cX10_takes 1 = .ok (.iload_n 1, 1) := dk_27 (dk_at dksX10_takes_0 1 rfl rfl)
theorem dX10_takes_2 : decode cX10_takes 2 = .ok (.invokespecial 13, 3) := dk_183 0 13 (dk_at dksX10_takes_0 2 rfl rfl)
theorem dX10_takes_5 : decode cX10_takes 5 = .ok (.aload_n 0, 1) := dk_42 (dk_at dksX10_takes_0 5 rfl rfl)
theorem dX10_takes_6 : decode cX10_takes 6 = .ok (.getfield 17, 3) := dk_180 0 17 (dk_at dksX10_takes_0 6 rfl rfl)
theorem dX10_takes_9 : decode cX10_takes 9 = .ok (.iadd, 1) := dk_96 (dk_at dksX10_takes_0 9 rfl rfl)
theorem dX10_takes_10 : decode cX10_takes 10 = .ok (.ireturn, 1) := dk_172 (dk_at dksX10_takes_0 10 rfl rfl)
abbrev cX10_lucks : ByteArray := prog_7_method_4_code
def yX10_lucks : MethodName := ⟨RX10, "lucks", "(IZ)I"⟩
def dkwX10_lucks_0 : List UInt8 := [42, 27, 28, 183, 0, 21, 5, 108, 172]
abbrev dktX10_lucks_0 : List UInt8 := dkwX10_lucks_0 ++ []
theorem dksX10_lucks_0 : cX10_lucks.data.toList.drop 0 = dktX10_lucks_0 := by decide +kernel
theorem dX10_lucks_0 : decode cX10_lucks 0 = .ok (.aload_n 0, 1) := dk_42 (dk_at dksX10_lucks_0 0 rfl rfl)
theorem dX10_lucks_1 : decode cX10_lucks 1 = .ok (.iload_n 1, 1) := dk_27 (dk_at dksX10_lucks_0 1 rfl rfl)
theorem dX10_lucks_2 : decode cX10_lucks 2 = .ok (.iload_n 2, 1) := dk_28 (dk_at dksX10_lucks_0 2 rfl rfl)
theorem dX10_lucks_3 : decode cX10_lucks 3 = .ok (.invokespecial 21, 3) := dk_183 0 21 (dk_at dksX10_lucks_0 3 rfl rfl)
theorem dX10_lucks_6 : decode cX10_lucks 6 = .ok (.iconst 2, 1) := dk_5 (dk_at dksX10_lucks_0 6 rfl rfl)
theorem dX10_lucks_7 : decode cX10_lucks 7 = .ok (.idiv, 1) := dk_108 (dk_at dksX10_lucks_0 7 rfl rfl)
theorem dX10_lucks_8 : decode cX10_lucks 8 = .ok (.ireturn, 1) := dk_172 (dk_at dksX10_lucks_0 8 rfl rfl)

abbrev cX11_init : ByteArray := prog_11_method_1_code
def yX11_init : MethodName := ⟨RX11, "<init>", "(LNameThrownBack;II)V"⟩
def dkwX11_init_0 : List UInt8 := [42, 43, 181, 0, 1, 42, 43, 28, 29, 183, 0, 7, 177]
abbrev dktX11_init_0 : List UInt8 := dkwX11_init_0 ++ []
theorem dksX11_init_0 : cX11_init.data.toList.drop 0 = dktX11_init_0 := by decide +kernel
theorem dX11_init_0 : decode cX11_init 0 = .ok (.aload_n 0, 1) := dk_42 (dk_at dksX11_init_0 0 rfl rfl)
theorem dX11_init_1 : decode cX11_init 1 = .ok (.aload_n 1, 1) := dk_43 (dk_at dksX11_init_0 1 rfl rfl)
theorem dX11_init_2 : decode cX11_init 2 = .ok (.putfield 1, 3) := dk_181 0 1 (dk_at dksX11_init_0 2 rfl rfl)
theorem dX11_init_5 : decode cX11_init 5 = .ok (.aload_n 0, 1) := dk_42 (dk_at dksX11_init_0 5 rfl rfl)
theorem dX11_init_6 : decode cX11_init 6 = .ok (.aload_n 1, 1) := dk_43 (dk_at dksX11_init_0 6 rfl rfl)
theorem dX11_init_7 : decode cX11_init 7 = .ok (.iload_n 2, 1) := dk_28 (dk_at dksX11_init_0 7 rfl rfl)
theorem dX11_init_8 : decode cX11_init 8 = .ok (.iload_n 3, 1) := dk_29 (dk_at dksX11_init_0 8 rfl rfl)
theorem dX11_init_9 : decode cX11_init 9 = .ok (.invokespecial 7, 3) := dk_183 0 7 (dk_at dksX11_init_0 9 rfl rfl)
theorem dX11_init_12 : decode cX11_init 12 = .ok (.return_, 1) := dk_177 (dk_at dksX11_init_0 12 rfl rfl)
abbrev cX11_kind : ByteArray := prog_11_method_2_code
def yX11_kind : MethodName := ⟨RX11, "kind", "()I"⟩
def dkwX11_kind_0 : List UInt8 := [42, 183, 0, 13, 5, 96, 172]
abbrev dktX11_kind_0 : List UInt8 := dkwX11_kind_0 ++ []
theorem dksX11_kind_0 : cX11_kind.data.toList.drop 0 = dktX11_kind_0 := by decide +kernel
theorem dX11_kind_0 : decode cX11_kind 0 = .ok (.aload_n 0, 1) := dk_42 (dk_at dksX11_kind_0 0 rfl rfl)
theorem dX11_kind_1 : decode cX11_kind 1 = .ok (.invokespecial 13, 3) := dk_183 0 13 (dk_at dksX11_kind_0 1 rfl rfl)
theorem dX11_kind_4 : decode cX11_kind 4 = .ok (.iconst 2, 1) := dk_5 (dk_at dksX11_kind_0 4 rfl rfl)
theorem dX11_kind_5 : decode cX11_kind 5 = .ok (.iadd, 1) := dk_96 (dk_at dksX11_kind_0 5 rfl rfl)
theorem dX11_kind_6 : decode cX11_kind 6 = .ok (.ireturn, 1) := dk_172 (dk_at dksX11_kind_0 6 rfl rfl)
abbrev cX11_takes : ByteArray := prog_11_method_4_code
def yX11_takes : MethodName := ⟨RX11, "takes", "(I)I"⟩
def dkwX11_takes_0 : List UInt8 := [42, 180, 0, 1, 180, 0, 26, 6, 112, 154, 0, 11, 42, 27, 183, 0, 32, 167, 0, 4, 3, 172]
abbrev dktX11_takes_0 : List UInt8 := dkwX11_takes_0 ++ []
theorem dksX11_takes_0 : cX11_takes.data.toList.drop 0 = dktX11_takes_0 := by decide +kernel
theorem dX11_takes_0 : decode cX11_takes 0 = .ok (.aload_n 0, 1) := dk_42 (dk_at dksX11_takes_0 0 rfl rfl)
theorem dX11_takes_1 : decode cX11_takes 1 = .ok (.getfield 1, 3) := dk_180 0 1 (dk_at dksX11_takes_0 1 rfl rfl)
theorem dX11_takes_4 : decode cX11_takes 4 = .ok (.getfield 26, 3) := dk_180 0 26 (dk_at dksX11_takes_0 4 rfl rfl)
theorem dX11_takes_7 : decode cX11_takes 7 = .ok (.iconst 3, 1) := dk_6 (dk_at dksX11_takes_0 7 rfl rfl)
theorem dX11_takes_8 : decode cX11_takes 8 = .ok (.irem, 1) := dk_112 (dk_at dksX11_takes_0 8 rfl rfl)
theorem dX11_takes_9 : decode cX11_takes 9 = .ok (.ifCond .ne 11, 3) := dk_154 0 11 (dk_at dksX11_takes_0 9 rfl rfl)
theorem dX11_takes_12 : decode cX11_takes 12 = .ok (.aload_n 0, 1) := dk_42 (dk_at dksX11_takes_0 12 rfl rfl)
theorem dX11_takes_13 : decode cX11_takes 13 = .ok (.iload_n 1, 1) := dk_27 (dk_at dksX11_takes_0 13 rfl rfl)
theorem dX11_takes_14 : decode cX11_takes 14 = .ok (.invokespecial 32, 3) := dk_183 0 32 (dk_at dksX11_takes_0 14 rfl rfl)
theorem dX11_takes_17 : decode cX11_takes 17 = .ok (.goto 4, 3) := dk_167 0 4 (dk_at dksX11_takes_0 17 rfl rfl)
theorem dX11_takes_20 : decode cX11_takes 20 = .ok (.iconst 0, 1) := dk_3 (dk_at dksX11_takes_0 20 rfl rfl)
theorem dX11_takes_21 : decode cX11_takes 21 = .ok (.ireturn, 1) := dk_172 (dk_at dksX11_takes_0 21 rfl rfl)
abbrev cX11_lets : ByteArray := prog_11_method_3_code
def yX11_lets : MethodName := ⟨RX11, "lets", "(II)I"⟩
def dkwX11_lets_0 : List UInt8 := [28, 4, 160, 0, 7, 3, 167, 0, 13, 4, 42, 27, 28, 183, 0, 17, 184, 0, 21, 172]
abbrev dktX11_lets_0 : List UInt8 := dkwX11_lets_0 ++ []
theorem dksX11_lets_0 : cX11_lets.data.toList.drop 0 = dktX11_lets_0 := by decide +kernel
theorem dX11_lets_0 : decode cX11_lets 0 = .ok (.iload_n 2, 1) := dk_28 (dk_at dksX11_lets_0 0 rfl rfl)
theorem dX11_lets_1 : decode cX11_lets 1 = .ok (.iconst 1, 1) := dk_4 (dk_at dksX11_lets_0 1 rfl rfl)
theorem dX11_lets_2 : decode cX11_lets 2 = .ok (.if_icmp .ne 7, 3) := dk_160 0 7 (dk_at dksX11_lets_0 2 rfl rfl)
theorem dX11_lets_5 : decode cX11_lets 5 = .ok (.iconst 0, 1) := dk_3 (dk_at dksX11_lets_0 5 rfl rfl)
theorem dX11_lets_6 : decode cX11_lets 6 = .ok (.goto 13, 3) := dk_167 0 13 (dk_at dksX11_lets_0 6 rfl rfl)
theorem dX11_lets_9 : decode cX11_lets 9 = .ok (.iconst 1, 1) := dk_4 (dk_at dksX11_lets_0 9 rfl rfl)
theorem dX11_lets_10 : decode cX11_lets 10 = .ok (.aload_n 0, 1) := dk_42 (dk_at dksX11_lets_0 10 rfl rfl)
theorem dX11_lets_11 : decode cX11_lets 11 = .ok (.iload_n 1, 1) := dk_27 (dk_at dksX11_lets_0 11 rfl rfl)
theorem dX11_lets_12 : decode cX11_lets 12 = .ok (.iload_n 2, 1) := dk_28 (dk_at dksX11_lets_0 12 rfl rfl)
theorem dX11_lets_13 : decode cX11_lets 13 = .ok (.invokespecial 17, 3) := dk_183 0 17 (dk_at dksX11_lets_0 13 rfl rfl)
theorem dX11_lets_16 : decode cX11_lets 16 = .ok (.invokestatic 21, 3) := dk_184 0 21 (dk_at dksX11_lets_0 16 rfl rfl)
theorem dX11_lets_19 : decode cX11_lets 19 = .ok (.ireturn, 1) := dk_172 (dk_at dksX11_lets_0 19 rfl rfl)

abbrev cX12_init : ByteArray := prog_4_method_1_code
def yX12_init : MethodName := ⟨RX12, "<init>", "(LNameThrownBack;II)V"⟩
def dkwX12_init_0 : List UInt8 := [42, 43, 181, 0, 1, 42, 43, 28, 29, 183, 0, 7, 177]
abbrev dktX12_init_0 : List UInt8 := dkwX12_init_0 ++ []
theorem dksX12_init_0 : cX12_init.data.toList.drop 0 = dktX12_init_0 := by decide +kernel
theorem dX12_init_0 : decode cX12_init 0 = .ok (.aload_n 0, 1) := dk_42 (dk_at dksX12_init_0 0 rfl rfl)
theorem dX12_init_1 : decode cX12_init 1 = .ok (.aload_n 1, 1) := dk_43 (dk_at dksX12_init_0 1 rfl rfl)
theorem dX12_init_2 : decode cX12_init 2 = .ok (.putfield 1, 3) := dk_181 0 1 (dk_at dksX12_init_0 2 rfl rfl)
theorem dX12_init_5 : decode cX12_init 5 = .ok (.aload_n 0, 1) := dk_42 (dk_at dksX12_init_0 5 rfl rfl)
theorem dX12_init_6 : decode cX12_init 6 = .ok (.aload_n 1, 1) := dk_43 (dk_at dksX12_init_0 6 rfl rfl)
theorem dX12_init_7 : decode cX12_init 7 = .ok (.iload_n 2, 1) := dk_28 (dk_at dksX12_init_0 7 rfl rfl)
theorem dX12_init_8 : decode cX12_init 8 = .ok (.iload_n 3, 1) := dk_29 (dk_at dksX12_init_0 8 rfl rfl)
theorem dX12_init_9 : decode cX12_init 9 = .ok (.invokespecial 7, 3) := dk_183 0 7 (dk_at dksX12_init_0 9 rfl rfl)
theorem dX12_init_12 : decode cX12_init 12 = .ok (.return_, 1) := dk_177 (dk_at dksX12_init_0 12 rfl rfl)
abbrev cX12_kind : ByteArray := prog_4_method_2_code
def yX12_kind : MethodName := ⟨RX12, "kind", "()I"⟩
def dkwX12_kind_0 : List UInt8 := [42, 183, 0, 13, 5, 96, 172]
abbrev dktX12_kind_0 : List UInt8 := dkwX12_kind_0 ++ []
theorem dksX12_kind_0 : cX12_kind.data.toList.drop 0 = dktX12_kind_0 := by decide +kernel
theorem dX12_kind_0 : decode cX12_kind 0 = .ok (.aload_n 0, 1) := dk_42 (dk_at dksX12_kind_0 0 rfl rfl)
theorem dX12_kind_1 : decode cX12_kind 1 = .ok (.invokespecial 13, 3) := dk_183 0 13 (dk_at dksX12_kind_0 1 rfl rfl)
theorem dX12_kind_4 : decode cX12_kind 4 = .ok (.iconst 2, 1) := dk_5 (dk_at dksX12_kind_0 4 rfl rfl)
theorem dX12_kind_5 : decode cX12_kind 5 = .ok (.iadd, 1) := dk_96 (dk_at dksX12_kind_0 5 rfl rfl)
theorem dX12_kind_6 : decode cX12_kind 6 = .ok (.ireturn, 1) := dk_172 (dk_at dksX12_kind_0 6 rfl rfl)
abbrev cX12_takes : ByteArray := prog_4_method_3_code
def yX12_takes : MethodName := ⟨RX12, "takes", "(I)I"⟩
def dkwX12_takes_0 : List UInt8 := [5, 42, 27, 183, 0, 17, 104, 172]
abbrev dktX12_takes_0 : List UInt8 := dkwX12_takes_0 ++ []
theorem dksX12_takes_0 : cX12_takes.data.toList.drop 0 = dktX12_takes_0 := by decide +kernel
theorem dX12_takes_0 : decode cX12_takes 0 = .ok (.iconst 2, 1) := dk_5 (dk_at dksX12_takes_0 0 rfl rfl)
theorem dX12_takes_1 : decode cX12_takes 1 = .ok (.aload_n 0, 1) := dk_42 (dk_at dksX12_takes_0 1 rfl rfl)
theorem dX12_takes_2 : decode cX12_takes 2 = .ok (.iload_n 1, 1) := dk_27 (dk_at dksX12_takes_0 2 rfl rfl)
theorem dX12_takes_3 : decode cX12_takes 3 = .ok (.invokespecial 17, 3) := dk_183 0 17 (dk_at dksX12_takes_0 3 rfl rfl)
theorem dX12_takes_6 : decode cX12_takes 6 = .ok (.imul, 1) := dk_104 (dk_at dksX12_takes_0 6 rfl rfl)
theorem dX12_takes_7 : decode cX12_takes 7 = .ok (.ireturn, 1) := dk_172 (dk_at dksX12_takes_0 7 rfl rfl)
abbrev cX12_lucks : ByteArray := prog_4_method_4_code
def yX12_lucks : MethodName := ⟨RX12, "lucks", "(IZ)I"⟩
def dkwX12_lucks_0 : List UInt8 := [28, 153, 0, 10, 42, 180, 0, 21, 167, 0, 9, 42, 27, 28, 183, 0, 25, 172]
abbrev dktX12_lucks_0 : List UInt8 := dkwX12_lucks_0 ++ []
theorem dksX12_lucks_0 : cX12_lucks.data.toList.drop 0 = dktX12_lucks_0 := by decide +kernel
theorem dX12_lucks_0 : decode cX12_lucks 0 = .ok (.iload_n 2, 1) := dk_28 (dk_at dksX12_lucks_0 0 rfl rfl)
theorem dX12_lucks_1 : decode cX12_lucks 1 = .ok (.ifCond .eq 10, 3) := dk_153 0 10 (dk_at dksX12_lucks_0 1 rfl rfl)
theorem dX12_lucks_4 : decode cX12_lucks 4 = .ok (.aload_n 0, 1) := dk_42 (dk_at dksX12_lucks_0 4 rfl rfl)
theorem dX12_lucks_5 : decode cX12_lucks 5 = .ok (.getfield 21, 3) := dk_180 0 21 (dk_at dksX12_lucks_0 5 rfl rfl)
theorem dX12_lucks_8 : decode cX12_lucks 8 = .ok (.goto 9, 3) := dk_167 0 9 (dk_at dksX12_lucks_0 8 rfl rfl)
theorem dX12_lucks_11 : decode cX12_lucks 11 = .ok (.aload_n 0, 1) := dk_42 (dk_at dksX12_lucks_0 11 rfl rfl)
theorem dX12_lucks_12 : decode cX12_lucks 12 = .ok (.iload_n 1, 1) := dk_27 (dk_at dksX12_lucks_0 12 rfl rfl)
theorem dX12_lucks_13 : decode cX12_lucks 13 = .ok (.iload_n 2, 1) := dk_28 (dk_at dksX12_lucks_0 13 rfl rfl)
theorem dX12_lucks_14 : decode cX12_lucks 14 = .ok (.invokespecial 25, 3) := dk_183 0 25 (dk_at dksX12_lucks_0 14 rfl rfl)
theorem dX12_lucks_17 : decode cX12_lucks 17 = .ok (.ireturn, 1) := dk_172 (dk_at dksX12_lucks_0 17 rfl rfl)

abbrev cX13_init : ByteArray := prog_8_method_1_code
def yX13_init : MethodName := ⟨RX13, "<init>", "(LNameThrownBack;II)V"⟩
def dkwX13_init_0 : List UInt8 := [42, 43, 181, 0, 1, 42, 43, 28, 29, 183, 0, 7, 177]
abbrev dktX13_init_0 : List UInt8 := dkwX13_init_0 ++ []
theorem dksX13_init_0 : cX13_init.data.toList.drop 0 = dktX13_init_0 := by decide +kernel
theorem dX13_init_0 : decode cX13_init 0 = .ok (.aload_n 0, 1) := dk_42 (dk_at dksX13_init_0 0 rfl rfl)
theorem dX13_init_1 : decode cX13_init 1 = .ok (.aload_n 1, 1) := dk_43 (dk_at dksX13_init_0 1 rfl rfl)
theorem dX13_init_2 : decode cX13_init 2 = .ok (.putfield 1, 3) := dk_181 0 1 (dk_at dksX13_init_0 2 rfl rfl)
theorem dX13_init_5 : decode cX13_init 5 = .ok (.aload_n 0, 1) := dk_42 (dk_at dksX13_init_0 5 rfl rfl)
theorem dX13_init_6 : decode cX13_init 6 = .ok (.aload_n 1, 1) := dk_43 (dk_at dksX13_init_0 6 rfl rfl)
theorem dX13_init_7 : decode cX13_init 7 = .ok (.iload_n 2, 1) := dk_28 (dk_at dksX13_init_0 7 rfl rfl)
theorem dX13_init_8 : decode cX13_init 8 = .ok (.iload_n 3, 1) := dk_29 (dk_at dksX13_init_0 8 rfl rfl)
theorem dX13_init_9 : decode cX13_init 9 = .ok (.invokespecial 7, 3) := dk_183 0 7 (dk_at dksX13_init_0 9 rfl rfl)
theorem dX13_init_12 : decode cX13_init 12 = .ok (.return_, 1) := dk_177 (dk_at dksX13_init_0 12 rfl rfl)
abbrev cX13_kind : ByteArray := prog_8_method_2_code
def yX13_kind : MethodName := ⟨RX13, "kind", "()I"⟩
def dkwX13_kind_0 : List UInt8 := [42, 183, 0, 13, 8, 96, 172]
abbrev dktX13_kind_0 : List UInt8 := dkwX13_kind_0 ++ []
theorem dksX13_kind_0 : cX13_kind.data.toList.drop 0 = dktX13_kind_0 := by decide +kernel
theorem dX13_kind_0 : decode cX13_kind 0 = .ok (.aload_n 0, 1) := dk_42 (dk_at dksX13_kind_0 0 rfl rfl)
theorem dX13_kind_1 : decode cX13_kind 1 = .ok (.invokespecial 13, 3) := dk_183 0 13 (dk_at dksX13_kind_0 1 rfl rfl)
theorem dX13_kind_4 : decode cX13_kind 4 = .ok (.iconst 5, 1) := dk_8 (dk_at dksX13_kind_0 4 rfl rfl)
theorem dX13_kind_5 : decode cX13_kind 5 = .ok (.iadd, 1) := dk_96 (dk_at dksX13_kind_0 5 rfl rfl)
theorem dX13_kind_6 : decode cX13_kind 6 = .ok (.ireturn, 1) := dk_172 (dk_at dksX13_kind_0 6 rfl rfl)
abbrev cX13_takes : ByteArray := prog_8_method_4_code
def yX13_takes : MethodName := ⟨RX13, "takes", "(I)I"⟩
theorem dX13_takes_0 : decode cX13_takes 0 = .ok (.iconst 1, 1) := by decide +kernel
theorem dX13_takes_1 : decode cX13_takes 1 = .ok (.ireturn, 1) := by decide +kernel
abbrev cX13_lets : ByteArray := prog_8_method_3_code
def yX13_lets : MethodName := ⟨RX13, "lets", "(II)I"⟩
def dkwX13_lets_0 : List UInt8 := [42, 180, 0, 17, 28, 112, 172]
abbrev dktX13_lets_0 : List UInt8 := dkwX13_lets_0 ++ []
theorem dksX13_lets_0 : cX13_lets.data.toList.drop 0 = dktX13_lets_0 := by decide +kernel
theorem dX13_lets_0 : decode cX13_lets 0 = .ok (.aload_n 0, 1) := dk_42 (dk_at dksX13_lets_0 0 rfl rfl)
theorem dX13_lets_1 : decode cX13_lets 1 = .ok (.getfield 17, 3) := dk_180 0 17 (dk_at dksX13_lets_0 1 rfl rfl)
theorem dX13_lets_4 : decode cX13_lets 4 = .ok (.iload_n 2, 1) := dk_28 (dk_at dksX13_lets_0 4 rfl rfl)
theorem dX13_lets_5 : decode cX13_lets 5 = .ok (.irem, 1) := dk_112 (dk_at dksX13_lets_0 5 rfl rfl)
theorem dX13_lets_6 : decode cX13_lets 6 = .ok (.ireturn, 1) := dk_172 (dk_at dksX13_lets_0 6 rfl rfl)

abbrev cX14_init : ByteArray := prog_10_method_1_code
def yX14_init : MethodName := ⟨RX14, "<init>", "(I)V"⟩
def dkwX14_init_0 : List UInt8 := [42, 1, 1, 3, 3, 183, 0, 1, 42, 27, 181, 0, 7, 177]
abbrev dktX14_init_0 : List UInt8 := dkwX14_init_0 ++ []
theorem dksX14_init_0 : cX14_init.data.toList.drop 0 = dktX14_init_0 := by decide +kernel
theorem dX14_init_0 : decode cX14_init 0 = .ok (.aload_n 0, 1) := dk_42 (dk_at dksX14_init_0 0 rfl rfl)
theorem dX14_init_1 : decode cX14_init 1 = .ok (.aconst_null, 1) := dk_1 (dk_at dksX14_init_0 1 rfl rfl)
theorem dX14_init_2 : decode cX14_init 2 = .ok (.aconst_null, 1) := dk_1 (dk_at dksX14_init_0 2 rfl rfl)
theorem dX14_init_3 : decode cX14_init 3 = .ok (.iconst 0, 1) := dk_3 (dk_at dksX14_init_0 3 rfl rfl)
theorem dX14_init_4 : decode cX14_init 4 = .ok (.iconst 0, 1) := dk_3 (dk_at dksX14_init_0 4 rfl rfl)
theorem dX14_init_5 : decode cX14_init 5 = .ok (.invokespecial 1, 3) := dk_183 0 1 (dk_at dksX14_init_0 5 rfl rfl)
theorem dX14_init_8 : decode cX14_init 8 = .ok (.aload_n 0, 1) := dk_42 (dk_at dksX14_init_0 8 rfl rfl)
theorem dX14_init_9 : decode cX14_init 9 = .ok (.iload_n 1, 1) := dk_27 (dk_at dksX14_init_0 9 rfl rfl)
theorem dX14_init_10 : decode cX14_init 10 = .ok (.putfield 7, 3) := dk_181 0 7 (dk_at dksX14_init_0 10 rfl rfl)
theorem dX14_init_13 : decode cX14_init 13 = .ok (.return_, 1) := dk_177 (dk_at dksX14_init_0 13 rfl rfl)

abbrev cX15_init : ByteArray := prog_15_method_1_code
def yX15_init : MethodName := ⟨RX15, "<init>", "(Ljava/lang/Object;)V"⟩
def dkwX15_init_0 : List UInt8 := [42, 183, 0, 1, 42, 43, 181, 0, 7, 177]
abbrev dktX15_init_0 : List UInt8 := dkwX15_init_0 ++ []
theorem dksX15_init_0 : cX15_init.data.toList.drop 0 = dktX15_init_0 := by decide +kernel
theorem dX15_init_0 : decode cX15_init 0 = .ok (.aload_n 0, 1) := dk_42 (dk_at dksX15_init_0 0 rfl rfl)
theorem dX15_init_1 : decode cX15_init 1 = .ok (.invokespecial 1, 3) := dk_183 0 1 (dk_at dksX15_init_0 1 rfl rfl)
theorem dX15_init_4 : decode cX15_init 4 = .ok (.aload_n 0, 1) := dk_42 (dk_at dksX15_init_0 4 rfl rfl)
theorem dX15_init_5 : decode cX15_init 5 = .ok (.aload_n 1, 1) := dk_43 (dk_at dksX15_init_0 5 rfl rfl)
theorem dX15_init_6 : decode cX15_init 6 = .ok (.putfield 7, 3) := dk_181 0 7 (dk_at dksX15_init_0 6 rfl rfl)
theorem dX15_init_9 : decode cX15_init 9 = .ok (.return_, 1) := dk_177 (dk_at dksX15_init_0 9 rfl rfl)
abbrev cX15_names : ByteArray := prog_15_method_3_code
def yX15_names : MethodName := ⟨RX15, "names", "()Ljava/lang/Integer;"⟩
def dkwX15_names_1 : List UInt8 := [183, 0, 17, 191]
abbrev dktX15_names_1 : List UInt8 := dkwX15_names_1 ++ []
def dkwX15_names_0 : List UInt8 := [42, 180, 0, 7, 193, 0, 20, 153, 0, 11, 42, 180, 0, 7, 192, 0, 20, 176, 187, 0, 15, 89, 16, 243]
abbrev dktX15_names_0 : List UInt8 := dkwX15_names_0 ++ dktX15_names_1
theorem dksX15_names_0 : cX15_names.data.toList.drop 0 = dktX15_names_0 := by decide +kernel
theorem dksX15_names_1 : cX15_names.data.toList.drop 24 = dktX15_names_1 := dk_seg dksX15_names_0 24 rfl rfl
theorem dX15_names_0 : decode cX15_names 0 = .ok (.aload_n 0, 1) := dk_42 (dk_at dksX15_names_0 0 rfl rfl)
theorem dX15_names_1 : decode cX15_names 1 = .ok (.getfield 7, 3) := dk_180 0 7 (dk_at dksX15_names_0 1 rfl rfl)
theorem dX15_names_4 : decode cX15_names 4 = .ok (.instanceof 20, 3) := dk_193 0 20 (dk_at dksX15_names_0 4 rfl rfl)
theorem dX15_names_7 : decode cX15_names 7 = .ok (.ifCond .eq 11, 3) := dk_153 0 11 (dk_at dksX15_names_0 7 rfl rfl)
theorem dX15_names_10 : decode cX15_names 10 = .ok (.aload_n 0, 1) := dk_42 (dk_at dksX15_names_0 10 rfl rfl)
theorem dX15_names_11 : decode cX15_names 11 = .ok (.getfield 7, 3) := dk_180 0 7 (dk_at dksX15_names_0 11 rfl rfl)
theorem dX15_names_14 : decode cX15_names 14 = .ok (.checkcast 20, 3) := dk_192 0 20 (dk_at dksX15_names_0 14 rfl rfl)
theorem dX15_names_17 : decode cX15_names 17 = .ok (.areturn, 1) := dk_176 (dk_at dksX15_names_0 17 rfl rfl)
theorem dX15_names_18 : decode cX15_names 18 = .ok (.new 15, 3) := dk_187 0 15 (dk_at dksX15_names_0 18 rfl rfl)
theorem dX15_names_21 : decode cX15_names 21 = .ok (.dup, 1) := dk_89 (dk_at dksX15_names_0 21 rfl rfl)
theorem dX15_names_22 : decode cX15_names 22 = .ok (.bipush (-13), 2) := dk_16 243 (dk_at dksX15_names_0 22 rfl rfl)
theorem dX15_names_24 : decode cX15_names 24 = .ok (.invokespecial 17, 3) := dk_183 0 17 (dk_at dksX15_names_1 0 rfl rfl)
theorem dX15_names_27 : decode cX15_names 27 = .ok (.athrow, 1) := dk_191 (dk_at dksX15_names_1 3 rfl rfl)
abbrev cX15_fisher : ByteArray := prog_15_method_2_code
def yX15_fisher : MethodName := ⟨RX15, "fisher", "()LNameThrownBack$Fisher;"⟩
def dkwX15_fisher_1 : List UInt8 := [183, 0, 17, 191]
abbrev dktX15_fisher_1 : List UInt8 := dkwX15_fisher_1 ++ []
def dkwX15_fisher_0 : List UInt8 := [42, 180, 0, 7, 193, 0, 13, 153, 0, 11, 42, 180, 0, 7, 192, 0, 13, 176, 187, 0, 15, 89, 16, 243]
abbrev dktX15_fisher_0 : List UInt8 := dkwX15_fisher_0 ++ dktX15_fisher_1
theorem dksX15_fisher_0 : cX15_fisher.data.toList.drop 0 = dktX15_fisher_0 := by decide +kernel
theorem dksX15_fisher_1 : cX15_fisher.data.toList.drop 24 = dktX15_fisher_1 := dk_seg dksX15_fisher_0 24 rfl rfl
theorem dX15_fisher_0 : decode cX15_fisher 0 = .ok (.aload_n 0, 1) := dk_42 (dk_at dksX15_fisher_0 0 rfl rfl)
theorem dX15_fisher_1 : decode cX15_fisher 1 = .ok (.getfield 7, 3) := dk_180 0 7 (dk_at dksX15_fisher_0 1 rfl rfl)
theorem dX15_fisher_4 : decode cX15_fisher 4 = .ok (.instanceof 13, 3) := dk_193 0 13 (dk_at dksX15_fisher_0 4 rfl rfl)
theorem dX15_fisher_7 : decode cX15_fisher 7 = .ok (.ifCond .eq 11, 3) := dk_153 0 11 (dk_at dksX15_fisher_0 7 rfl rfl)
theorem dX15_fisher_10 : decode cX15_fisher 10 = .ok (.aload_n 0, 1) := dk_42 (dk_at dksX15_fisher_0 10 rfl rfl)
theorem dX15_fisher_11 : decode cX15_fisher 11 = .ok (.getfield 7, 3) := dk_180 0 7 (dk_at dksX15_fisher_0 11 rfl rfl)
theorem dX15_fisher_14 : decode cX15_fisher 14 = .ok (.checkcast 13, 3) := dk_192 0 13 (dk_at dksX15_fisher_0 14 rfl rfl)
theorem dX15_fisher_17 : decode cX15_fisher 17 = .ok (.areturn, 1) := dk_176 (dk_at dksX15_fisher_0 17 rfl rfl)
theorem dX15_fisher_18 : decode cX15_fisher 18 = .ok (.new 15, 3) := dk_187 0 15 (dk_at dksX15_fisher_0 18 rfl rfl)
theorem dX15_fisher_21 : decode cX15_fisher 21 = .ok (.dup, 1) := dk_89 (dk_at dksX15_fisher_0 21 rfl rfl)
theorem dX15_fisher_22 : decode cX15_fisher 22 = .ok (.bipush (-13), 2) := dk_16 243 (dk_at dksX15_fisher_0 22 rfl rfl)
theorem dX15_fisher_24 : decode cX15_fisher 24 = .ok (.invokespecial 17, 3) := dk_183 0 17 (dk_at dksX15_fisher_1 0 rfl rfl)
theorem dX15_fisher_27 : decode cX15_fisher 27 = .ok (.athrow, 1) := dk_191 (dk_at dksX15_fisher_1 3 rfl rfl)

