set_option maxRecDepth 100000
abbrev cX0_init : ByteArray := prog_1_method_3_code
def yX0_init : MethodName := ⟨RX0, "<init>", "()V"⟩
def dkwX0_init_7 : List UInt8 := [180, 0, 62, 3, 18, 77, 184, 0, 79, 83, 42, 4, 181, 0, 83, 177]
abbrev dktX0_init_7 : List UInt8 := dkwX0_init_7 ++ []
def dkwX0_init_6 : List UInt8 := [5, 187, 0, 70, 89, 183, 0, 72, 83, 89, 6, 187, 0, 70, 89, 183, 0, 72, 83, 181, 0, 73, 42]
abbrev dktX0_init_6 : List UInt8 := dkwX0_init_6 ++ dktX0_init_7
def dkwX0_init_5 : List UInt8 := [189, 0, 70, 89, 3, 187, 0, 70, 89, 183, 0, 72, 83, 89, 4, 187, 0, 70, 89, 183, 0, 72, 83, 89]
abbrev dktX0_init_5 : List UInt8 := dkwX0_init_5 ++ dktX0_init_6
def dkwX0_init_4 : List UInt8 := [2, 181, 0, 56, 42, 16, 6, 189, 0, 60, 181, 0, 62, 42, 17, 0, 160, 188, 8, 181, 0, 66, 42, 7]
abbrev dktX0_init_4 : List UInt8 := dkwX0_init_4 ++ dktX0_init_5
def dkwX0_init_3 : List UInt8 := [16, 20, 188, 10, 181, 0, 47, 42, 16, 20, 188, 10, 181, 0, 50, 42, 16, 20, 188, 10, 181, 0, 53, 42]
abbrev dktX0_init_3 : List UInt8 := dkwX0_init_3 ++ dktX0_init_4
def dkwX0_init_2 : List UInt8 := [16, 20, 188, 10, 181, 0, 38, 42, 16, 20, 188, 10, 181, 0, 41, 42, 16, 20, 188, 10, 181, 0, 44, 42]
abbrev dktX0_init_2 : List UInt8 := dkwX0_init_2 ++ dktX0_init_3
def dkwX0_init_1 : List UInt8 := [16, 6, 188, 10, 181, 0, 29, 42, 16, 6, 188, 10, 181, 0, 32, 42, 16, 6, 188, 10, 181, 0, 35, 42]
abbrev dktX0_init_1 : List UInt8 := dkwX0_init_1 ++ dktX0_init_2
def dkwX0_init_0 : List UInt8 := [42, 183, 0, 10, 42, 16, 6, 188, 10, 181, 0, 16, 42, 187, 0, 22, 89, 183, 0, 24, 181, 0, 25, 42]
abbrev dktX0_init_0 : List UInt8 := dkwX0_init_0 ++ dktX0_init_1
theorem dksX0_init_0 : cX0_init.data.toList.drop 0 = dktX0_init_0 := by decide +kernel
theorem dksX0_init_1 : cX0_init.data.toList.drop 24 = dktX0_init_1 := dk_seg dksX0_init_0 24 rfl rfl
theorem dksX0_init_2 : cX0_init.data.toList.drop 48 = dktX0_init_2 := dk_seg dksX0_init_1 24 rfl rfl
theorem dksX0_init_3 : cX0_init.data.toList.drop 72 = dktX0_init_3 := dk_seg dksX0_init_2 24 rfl rfl
theorem dksX0_init_4 : cX0_init.data.toList.drop 96 = dktX0_init_4 := dk_seg dksX0_init_3 24 rfl rfl
theorem dksX0_init_5 : cX0_init.data.toList.drop 120 = dktX0_init_5 := dk_seg dksX0_init_4 24 rfl rfl
theorem dksX0_init_6 : cX0_init.data.toList.drop 144 = dktX0_init_6 := dk_seg dksX0_init_5 24 rfl rfl
theorem dksX0_init_7 : cX0_init.data.toList.drop 167 = dktX0_init_7 := dk_seg dksX0_init_6 23 rfl rfl
theorem dX0_init_0 : decode cX0_init 0 = .ok (.aload_n 0, 1) := dk_42 (dk_at dksX0_init_0 0 rfl rfl)
theorem dX0_init_1 : decode cX0_init 1 = .ok (.invokespecial 10, 3) := dk_183 0 10 (dk_at dksX0_init_0 1 rfl rfl)
theorem dX0_init_4 : decode cX0_init 4 = .ok (.aload_n 0, 1) := dk_42 (dk_at dksX0_init_0 4 rfl rfl)
theorem dX0_init_5 : decode cX0_init 5 = .ok (.bipush 6, 2) := dk_16 6 (dk_at dksX0_init_0 5 rfl rfl)
theorem dX0_init_7 : decode cX0_init 7 = .ok (.newarray .int, 2) := dk_188_10 (dk_at dksX0_init_0 7 rfl rfl)
theorem dX0_init_9 : decode cX0_init 9 = .ok (.putfield 16, 3) := dk_181 0 16 (dk_at dksX0_init_0 9 rfl rfl)
theorem dX0_init_12 : decode cX0_init 12 = .ok (.aload_n 0, 1) := dk_42 (dk_at dksX0_init_0 12 rfl rfl)
theorem dX0_init_13 : decode cX0_init 13 = .ok (.new 22, 3) := dk_187 0 22 (dk_at dksX0_init_0 13 rfl rfl)
theorem dX0_init_16 : decode cX0_init 16 = .ok (.dup, 1) := dk_89 (dk_at dksX0_init_0 16 rfl rfl)
theorem dX0_init_17 : decode cX0_init 17 = .ok (.invokespecial 24, 3) := dk_183 0 24 (dk_at dksX0_init_0 17 rfl rfl)
theorem dX0_init_20 : decode cX0_init 20 = .ok (.putfield 25, 3) := dk_181 0 25 (dk_at dksX0_init_0 20 rfl rfl)
theorem dX0_init_23 : decode cX0_init 23 = .ok (.aload_n 0, 1) := dk_42 (dk_at dksX0_init_0 23 rfl rfl)
theorem dX0_init_24 : decode cX0_init 24 = .ok (.bipush 6, 2) := dk_16 6 (dk_at dksX0_init_1 0 rfl rfl)
theorem dX0_init_26 : decode cX0_init 26 = .ok (.newarray .int, 2) := dk_188_10 (dk_at dksX0_init_1 2 rfl rfl)
theorem dX0_init_28 : decode cX0_init 28 = .ok (.putfield 29, 3) := dk_181 0 29 (dk_at dksX0_init_1 4 rfl rfl)
theorem dX0_init_31 : decode cX0_init 31 = .ok (.aload_n 0, 1) := dk_42 (dk_at dksX0_init_1 7 rfl rfl)
theorem dX0_init_32 : decode cX0_init 32 = .ok (.bipush 6, 2) := dk_16 6 (dk_at dksX0_init_1 8 rfl rfl)
theorem dX0_init_34 : decode cX0_init 34 = .ok (.newarray .int, 2) := dk_188_10 (dk_at dksX0_init_1 10 rfl rfl)
theorem dX0_init_36 : decode cX0_init 36 = .ok (.putfield 32, 3) := dk_181 0 32 (dk_at dksX0_init_1 12 rfl rfl)
theorem dX0_init_39 : decode cX0_init 39 = .ok (.aload_n 0, 1) := dk_42 (dk_at dksX0_init_1 15 rfl rfl)
theorem dX0_init_40 : decode cX0_init 40 = .ok (.bipush 6, 2) := dk_16 6 (dk_at dksX0_init_1 16 rfl rfl)
theorem dX0_init_42 : decode cX0_init 42 = .ok (.newarray .int, 2) := dk_188_10 (dk_at dksX0_init_1 18 rfl rfl)
theorem dX0_init_44 : decode cX0_init 44 = .ok (.putfield 35, 3) := dk_181 0 35 (dk_at dksX0_init_1 20 rfl rfl)
theorem dX0_init_47 : decode cX0_init 47 = .ok (.aload_n 0, 1) := dk_42 (dk_at dksX0_init_1 23 rfl rfl)
theorem dX0_init_48 : decode cX0_init 48 = .ok (.bipush 20, 2) := dk_16 20 (dk_at dksX0_init_2 0 rfl rfl)
theorem dX0_init_50 : decode cX0_init 50 = .ok (.newarray .int, 2) := dk_188_10 (dk_at dksX0_init_2 2 rfl rfl)
theorem dX0_init_52 : decode cX0_init 52 = .ok (.putfield 38, 3) := dk_181 0 38 (dk_at dksX0_init_2 4 rfl rfl)
theorem dX0_init_55 : decode cX0_init 55 = .ok (.aload_n 0, 1) := dk_42 (dk_at dksX0_init_2 7 rfl rfl)
theorem dX0_init_56 : decode cX0_init 56 = .ok (.bipush 20, 2) := dk_16 20 (dk_at dksX0_init_2 8 rfl rfl)
theorem dX0_init_58 : decode cX0_init 58 = .ok (.newarray .int, 2) := dk_188_10 (dk_at dksX0_init_2 10 rfl rfl)
theorem dX0_init_60 : decode cX0_init 60 = .ok (.putfield 41, 3) := dk_181 0 41 (dk_at dksX0_init_2 12 rfl rfl)
theorem dX0_init_63 : decode cX0_init 63 = .ok (.aload_n 0, 1) := dk_42 (dk_at dksX0_init_2 15 rfl rfl)
theorem dX0_init_64 : decode cX0_init 64 = .ok (.bipush 20, 2) := dk_16 20 (dk_at dksX0_init_2 16 rfl rfl)
theorem dX0_init_66 : decode cX0_init 66 = .ok (.newarray .int, 2) := dk_188_10 (dk_at dksX0_init_2 18 rfl rfl)
theorem dX0_init_68 : decode cX0_init 68 = .ok (.putfield 44, 3) := dk_181 0 44 (dk_at dksX0_init_2 20 rfl rfl)
theorem dX0_init_71 : decode cX0_init 71 = .ok (.aload_n 0, 1) := dk_42 (dk_at dksX0_init_2 23 rfl rfl)
theorem dX0_init_72 : decode cX0_init 72 = .ok (.bipush 20, 2) := dk_16 20 (dk_at dksX0_init_3 0 rfl rfl)
theorem dX0_init_74 : decode cX0_init 74 = .ok (.newarray .int, 2) := dk_188_10 (dk_at dksX0_init_3 2 rfl rfl)
theorem dX0_init_76 : decode cX0_init 76 = .ok (.putfield 47, 3) := dk_181 0 47 (dk_at dksX0_init_3 4 rfl rfl)
theorem dX0_init_79 : decode cX0_init 79 = .ok (.aload_n 0, 1) := dk_42 (dk_at dksX0_init_3 7 rfl rfl)
theorem dX0_init_80 : decode cX0_init 80 = .ok (.bipush 20, 2) := dk_16 20 (dk_at dksX0_init_3 8 rfl rfl)
theorem dX0_init_82 : decode cX0_init 82 = .ok (.newarray .int, 2) := dk_188_10 (dk_at dksX0_init_3 10 rfl rfl)
theorem dX0_init_84 : decode cX0_init 84 = .ok (.putfield 50, 3) := dk_181 0 50 (dk_at dksX0_init_3 12 rfl rfl)
theorem dX0_init_87 : decode cX0_init 87 = .ok (.aload_n 0, 1) := dk_42 (dk_at dksX0_init_3 15 rfl rfl)
theorem dX0_init_88 : decode cX0_init 88 = .ok (.bipush 20, 2) := dk_16 20 (dk_at dksX0_init_3 16 rfl rfl)
theorem dX0_init_90 : decode cX0_init 90 = .ok (.newarray .int, 2) := dk_188_10 (dk_at dksX0_init_3 18 rfl rfl)
theorem dX0_init_92 : decode cX0_init 92 = .ok (.putfield 53, 3) := dk_181 0 53 (dk_at dksX0_init_3 20 rfl rfl)
theorem dX0_init_95 : decode cX0_init 95 = .ok (.aload_n 0, 1) := dk_42 (dk_at dksX0_init_3 23 rfl rfl)
theorem dX0_init_96 : decode cX0_init 96 = .ok (.iconst (-1), 1) := dk_2 (dk_at dksX0_init_4 0 rfl rfl)
theorem dX0_init_97 : decode cX0_init 97 = .ok (.putfield 56, 3) := dk_181 0 56 (dk_at dksX0_init_4 1 rfl rfl)
theorem dX0_init_100 : decode cX0_init 100 = .ok (.aload_n 0, 1) := dk_42 (dk_at dksX0_init_4 4 rfl rfl)
theorem dX0_init_101 : decode cX0_init 101 = .ok (.bipush 6, 2) := dk_16 6 (dk_at dksX0_init_4 5 rfl rfl)
theorem dX0_init_103 : decode cX0_init 103 = .ok (.anewarray 60, 3) := dk_189 0 60 (dk_at dksX0_init_4 7 rfl rfl)
theorem dX0_init_106 : decode cX0_init 106 = .ok (.putfield 62, 3) := dk_181 0 62 (dk_at dksX0_init_4 10 rfl rfl)
theorem dX0_init_109 : decode cX0_init 109 = .ok (.aload_n 0, 1) := dk_42 (dk_at dksX0_init_4 13 rfl rfl)
theorem dX0_init_110 : decode cX0_init 110 = .ok (.sipush 160, 3) := dk_17 0 160 (dk_at dksX0_init_4 14 rfl rfl)
theorem dX0_init_113 : decode cX0_init 113 = .ok (.newarray .byte, 2) := dk_188_8 (dk_at dksX0_init_4 17 rfl rfl)
theorem dX0_init_115 : decode cX0_init 115 = .ok (.putfield 66, 3) := dk_181 0 66 (dk_at dksX0_init_4 19 rfl rfl)
theorem dX0_init_118 : decode cX0_init 118 = .ok (.aload_n 0, 1) := dk_42 (dk_at dksX0_init_4 22 rfl rfl)
theorem dX0_init_119 : decode cX0_init 119 = .ok (.iconst 4, 1) := dk_7 (dk_at dksX0_init_4 23 rfl rfl)
theorem dX0_init_120 : decode cX0_init 120 = .ok (.anewarray 70, 3) := dk_189 0 70 (dk_at dksX0_init_5 0 rfl rfl)
theorem dX0_init_123 : decode cX0_init 123 = .ok (.dup, 1) := dk_89 (dk_at dksX0_init_5 3 rfl rfl)
theorem dX0_init_124 : decode cX0_init 124 = .ok (.iconst 0, 1) := dk_3 (dk_at dksX0_init_5 4 rfl rfl)
theorem dX0_init_125 : decode cX0_init 125 = .ok (.new 70, 3) := dk_187 0 70 (dk_at dksX0_init_5 5 rfl rfl)
theorem dX0_init_128 : decode cX0_init 128 = .ok (.dup, 1) := dk_89 (dk_at dksX0_init_5 8 rfl rfl)
theorem dX0_init_129 : decode cX0_init 129 = .ok (.invokespecial 72, 3) := dk_183 0 72 (dk_at dksX0_init_5 9 rfl rfl)
theorem dX0_init_132 : decode cX0_init 132 = .ok (.aastore, 1) := dk_83 (dk_at dksX0_init_5 12 rfl rfl)
theorem dX0_init_133 : decode cX0_init 133 = .ok (.dup, 1) := dk_89 (dk_at dksX0_init_5 13 rfl rfl)
theorem dX0_init_134 : decode cX0_init 134 = .ok (.iconst 1, 1) := dk_4 (dk_at dksX0_init_5 14 rfl rfl)
theorem dX0_init_135 : decode cX0_init 135 = .ok (.new 70, 3) := dk_187 0 70 (dk_at dksX0_init_5 15 rfl rfl)
theorem dX0_init_138 : decode cX0_init 138 = .ok (.dup, 1) := dk_89 (dk_at dksX0_init_5 18 rfl rfl)
theorem dX0_init_139 : decode cX0_init 139 = .ok (.invokespecial 72, 3) := dk_183 0 72 (dk_at dksX0_init_5 19 rfl rfl)
theorem dX0_init_142 : decode cX0_init 142 = .ok (.aastore, 1) := dk_83 (dk_at dksX0_init_5 22 rfl rfl)
theorem dX0_init_143 : decode cX0_init 143 = .ok (.dup, 1) := dk_89 (dk_at dksX0_init_5 23 rfl rfl)
theorem dX0_init_144 : decode cX0_init 144 = .ok (.iconst 2, 1) := dk_5 (dk_at dksX0_init_6 0 rfl rfl)
theorem dX0_init_145 : decode cX0_init 145 = .ok (.new 70, 3) := dk_187 0 70 (dk_at dksX0_init_6 1 rfl rfl)
theorem dX0_init_148 : decode cX0_init 148 = .ok (.dup, 1) := dk_89 (dk_at dksX0_init_6 4 rfl rfl)
theorem dX0_init_149 : decode cX0_init 149 = .ok (.invokespecial 72, 3) := dk_183 0 72 (dk_at dksX0_init_6 5 rfl rfl)
theorem dX0_init_152 : decode cX0_init 152 = .ok (.aastore, 1) := dk_83 (dk_at dksX0_init_6 8 rfl rfl)
theorem dX0_init_153 : decode cX0_init 153 = .ok (.dup, 1) := dk_89 (dk_at dksX0_init_6 9 rfl rfl)
theorem dX0_init_154 : decode cX0_init 154 = .ok (.iconst 3, 1) := dk_6 (dk_at dksX0_init_6 10 rfl rfl)
theorem dX0_init_155 : decode cX0_init 155 = .ok (.new 70, 3) := dk_187 0 70 (dk_at dksX0_init_6 11 rfl rfl)
theorem dX0_init_158 : decode cX0_init 158 = .ok (.dup, 1) := dk_89 (dk_at dksX0_init_6 14 rfl rfl)
theorem dX0_init_159 : decode cX0_init 159 = .ok (.invokespecial 72, 3) := dk_183 0 72 (dk_at dksX0_init_6 15 rfl rfl)
theorem dX0_init_162 : decode cX0_init 162 = .ok (.aastore, 1) := dk_83 (dk_at dksX0_init_6 18 rfl rfl)
theorem dX0_init_163 : decode cX0_init 163 = .ok (.putfield 73, 3) := dk_181 0 73 (dk_at dksX0_init_6 19 rfl rfl)
theorem dX0_init_166 : decode cX0_init 166 = .ok (.aload_n 0, 1) := dk_42 (dk_at dksX0_init_6 22 rfl rfl)
theorem dX0_init_167 : decode cX0_init 167 = .ok (.getfield 62, 3) := dk_180 0 62 (dk_at dksX0_init_7 0 rfl rfl)
theorem dX0_init_170 : decode cX0_init 170 = .ok (.iconst 0, 1) := dk_3 (dk_at dksX0_init_7 3 rfl rfl)
theorem dX0_init_171 : decode cX0_init 171 = .ok (.ldc 77, 2) := dk_18 77 (dk_at dksX0_init_7 4 rfl rfl)
theorem dX0_init_173 : decode cX0_init 173 = .ok (.invokestatic 79, 3) := dk_184 0 79 (dk_at dksX0_init_7 6 rfl rfl)
theorem dX0_init_176 : decode cX0_init 176 = .ok (.aastore, 1) := dk_83 (dk_at dksX0_init_7 9 rfl rfl)
theorem dX0_init_177 : decode cX0_init 177 = .ok (.aload_n 0, 1) := dk_42 (dk_at dksX0_init_7 10 rfl rfl)
theorem dX0_init_178 : decode cX0_init 178 = .ok (.iconst 1, 1) := dk_4 (dk_at dksX0_init_7 11 rfl rfl)
theorem dX0_init_179 : decode cX0_init 179 = .ok (.putfield 83, 3) := dk_181 0 83 (dk_at dksX0_init_7 12 rfl rfl)
theorem dX0_init_182 : decode cX0_init 182 = .ok (.return_, 1) := dk_177 (dk_at dksX0_init_7 15 rfl rfl)
abbrev cX0_read : ByteArray := prog_1_method_56_code
def yX0_read : MethodName := ⟨RX0, "read", "(Ljava/lang/String;)[LNameThrownBack$Node;"⟩
def dkwX0_read_1 : List UInt8 := [132, 2, 1, 167, 255, 238, 187, 1, 81, 89, 43, 43, 190, 183, 1, 83, 182, 1, 86, 176]
abbrev dktX0_read_1 : List UInt8 := dkwX0_read_1 ++ []
def dkwX0_read_0 : List UInt8 := [42, 182, 1, 72, 188, 8, 76, 3, 61, 28, 43, 190, 162, 0, 18, 43, 28, 42, 28, 182, 1, 77, 145, 84]
abbrev dktX0_read_0 : List UInt8 := dkwX0_read_0 ++ dktX0_read_1
theorem dksX0_read_0 : cX0_read.data.toList.drop 0 = dktX0_read_0 := by decide +kernel
theorem dksX0_read_1 : cX0_read.data.toList.drop 24 = dktX0_read_1 := dk_seg dksX0_read_0 24 rfl rfl
theorem dX0_read_0 : decode cX0_read 0 = .ok (.aload_n 0, 1) := dk_42 (dk_at dksX0_read_0 0 rfl rfl)
theorem dX0_read_1 : decode cX0_read 1 = .ok (.invokevirtual 328, 3) := dk_182 1 72 (dk_at dksX0_read_0 1 rfl rfl)
theorem dX0_read_4 : decode cX0_read 4 = .ok (.newarray .byte, 2) := dk_188_8 (dk_at dksX0_read_0 4 rfl rfl)
theorem dX0_read_6 : decode cX0_read 6 = .ok (.astore_n 1, 1) := dk_76 (dk_at dksX0_read_0 6 rfl rfl)
theorem dX0_read_7 : decode cX0_read 7 = .ok (.iconst 0, 1) := dk_3 (dk_at dksX0_read_0 7 rfl rfl)
theorem dX0_read_8 : decode cX0_read 8 = .ok (.istore_n 2, 1) := dk_61 (dk_at dksX0_read_0 8 rfl rfl)
theorem dX0_read_9 : decode cX0_read 9 = .ok (.iload_n 2, 1) := dk_28 (dk_at dksX0_read_0 9 rfl rfl)
theorem dX0_read_10 : decode cX0_read 10 = .ok (.aload_n 1, 1) := dk_43 (dk_at dksX0_read_0 10 rfl rfl)
theorem dX0_read_11 : decode cX0_read 11 = .ok (.arraylength, 1) := dk_190 (dk_at dksX0_read_0 11 rfl rfl)
theorem dX0_read_12 : decode cX0_read 12 = .ok (.if_icmp .ge 18, 3) := dk_162 0 18 (dk_at dksX0_read_0 12 rfl rfl)
theorem dX0_read_15 : decode cX0_read 15 = .ok (.aload_n 1, 1) := dk_43 (dk_at dksX0_read_0 15 rfl rfl)
theorem dX0_read_16 : decode cX0_read 16 = .ok (.iload_n 2, 1) := dk_28 (dk_at dksX0_read_0 16 rfl rfl)
theorem dX0_read_17 : decode cX0_read 17 = .ok (.aload_n 0, 1) := dk_42 (dk_at dksX0_read_0 17 rfl rfl)
theorem dX0_read_18 : decode cX0_read 18 = .ok (.iload_n 2, 1) := dk_28 (dk_at dksX0_read_0 18 rfl rfl)
theorem dX0_read_19 : decode cX0_read 19 = .ok (.invokevirtual 333, 3) := dk_182 1 77 (dk_at dksX0_read_0 19 rfl rfl)
theorem dX0_read_22 : decode cX0_read 22 = .ok (.i2b, 1) := dk_145 (dk_at dksX0_read_0 22 rfl rfl)
theorem dX0_read_23 : decode cX0_read 23 = .ok (.bastore, 1) := dk_84 (dk_at dksX0_read_0 23 rfl rfl)
theorem dX0_read_24 : decode cX0_read 24 = .ok (.iinc 2 1, 3) := dk_132 2 1 (dk_at dksX0_read_1 0 rfl rfl)
theorem dX0_read_27 : decode cX0_read 27 = .ok (.goto (-18), 3) := dk_167 255 238 (dk_at dksX0_read_1 3 rfl rfl)
theorem dX0_read_30 : decode cX0_read 30 = .ok (.new 337, 3) := dk_187 1 81 (dk_at dksX0_read_1 6 rfl rfl)
theorem dX0_read_33 : decode cX0_read 33 = .ok (.dup, 1) := dk_89 (dk_at dksX0_read_1 9 rfl rfl)
theorem dX0_read_34 : decode cX0_read 34 = .ok (.aload_n 1, 1) := dk_43 (dk_at dksX0_read_1 10 rfl rfl)
theorem dX0_read_35 : decode cX0_read 35 = .ok (.aload_n 1, 1) := dk_43 (dk_at dksX0_read_1 11 rfl rfl)
theorem dX0_read_36 : decode cX0_read 36 = .ok (.arraylength, 1) := dk_190 (dk_at dksX0_read_1 12 rfl rfl)
theorem dX0_read_37 : decode cX0_read 37 = .ok (.invokespecial 339, 3) := dk_183 1 83 (dk_at dksX0_read_1 13 rfl rfl)
theorem dX0_read_40 : decode cX0_read 40 = .ok (.invokevirtual 342, 3) := dk_182 1 86 (dk_at dksX0_read_1 16 rfl rfl)
theorem dX0_read_43 : decode cX0_read 43 = .ok (.areturn, 1) := dk_176 (dk_at dksX0_read_1 19 rfl rfl)
abbrev cX0_in : ByteArray := prog_1_method_1_code
def yX0_in : MethodName := ⟨RX0, "in", "(JJJ)Z"⟩
def dkwX0_in_0 : List UInt8 := [30, 32, 148, 155, 0, 14, 30, 22, 4, 148, 157, 0, 7, 4, 167, 0, 4, 3, 172]
abbrev dktX0_in_0 : List UInt8 := dkwX0_in_0 ++ []
theorem dksX0_in_0 : cX0_in.data.toList.drop 0 = dktX0_in_0 := by decide +kernel
theorem dX0_in_0 : decode cX0_in 0 = .ok (.lload_n 0, 1) := dk_30 (dk_at dksX0_in_0 0 rfl rfl)
theorem dX0_in_1 : decode cX0_in 1 = .ok (.lload_n 2, 1) := dk_32 (dk_at dksX0_in_0 1 rfl rfl)
theorem dX0_in_2 : decode cX0_in 2 = .ok (.lcmp, 1) := dk_148 (dk_at dksX0_in_0 2 rfl rfl)
theorem dX0_in_3 : decode cX0_in 3 = .ok (.ifCond .lt 14, 3) := dk_155 0 14 (dk_at dksX0_in_0 3 rfl rfl)
theorem dX0_in_6 : decode cX0_in 6 = .ok (.lload_n 0, 1) := dk_30 (dk_at dksX0_in_0 6 rfl rfl)
theorem dX0_in_7 : decode cX0_in 7 = .ok (.lload 4, 2) := dk_22 4 (dk_at dksX0_in_0 7 rfl rfl)
theorem dX0_in_9 : decode cX0_in 9 = .ok (.lcmp, 1) := dk_148 (dk_at dksX0_in_0 9 rfl rfl)
theorem dX0_in_10 : decode cX0_in 10 = .ok (.ifCond .gt 7, 3) := dk_157 0 7 (dk_at dksX0_in_0 10 rfl rfl)
theorem dX0_in_13 : decode cX0_in 13 = .ok (.iconst 1, 1) := dk_4 (dk_at dksX0_in_0 13 rfl rfl)
theorem dX0_in_14 : decode cX0_in 14 = .ok (.goto 4, 3) := dk_167 0 4 (dk_at dksX0_in_0 14 rfl rfl)
theorem dX0_in_17 : decode cX0_in 17 = .ok (.iconst 0, 1) := dk_3 (dk_at dksX0_in_0 17 rfl rfl)
theorem dX0_in_18 : decode cX0_in 18 = .ok (.ireturn, 1) := dk_172 (dk_at dksX0_in_0 18 rfl rfl)
abbrev cX0_count : ByteArray := prog_1_method_4_code
def yX0_count : MethodName := ⟨RX0, "count", "(I)I"⟩
def dkwX0_count_3 : List UInt8 := [180, 0, 83, 172, 42, 180, 0, 102, 172, 42, 180, 0, 105, 172, 16, 254, 172]
abbrev dktX0_count_3 : List UInt8 := dkwX0_count_3 ++ []
def dkwX0_count_2 : List UInt8 := [42, 180, 0, 25, 182, 0, 86, 172, 42, 180, 0, 90, 184, 0, 93, 172, 42, 180, 0, 99, 172, 42]
abbrev dktX0_count_2 : List UInt8 := dkwX0_count_2 ++ dktX0_count_3
def dkwX0_count_1 : List UInt8 := [170, 0, 0, 0, 0, 0, 75, 0, 0, 0, 0, 0, 0, 0, 5, 0, 0, 0, 39, 0, 0, 0, 47, 0, 0, 0, 55, 0, 0, 0, 60, 0, 0, 0, 65, 0, 0, 0, 70]
abbrev dktX0_count_1 : List UInt8 := dkwX0_count_1 ++ dktX0_count_2
def dkwX0_count_0 : List UInt8 := [27]
abbrev dktX0_count_0 : List UInt8 := dkwX0_count_0 ++ dktX0_count_1
theorem dksX0_count_0 : cX0_count.data.toList.drop 0 = dktX0_count_0 := by decide +kernel
theorem dksX0_count_1 : cX0_count.data.toList.drop 1 = dktX0_count_1 := dk_seg dksX0_count_0 1 rfl rfl
theorem dksX0_count_2 : cX0_count.data.toList.drop 40 = dktX0_count_2 := dk_seg dksX0_count_1 39 rfl rfl
theorem dksX0_count_3 : cX0_count.data.toList.drop 62 = dktX0_count_3 := dk_seg dksX0_count_2 22 rfl rfl
theorem dX0_count_0 : decode cX0_count 0 = .ok (.iload_n 1, 1) := dk_27 (dk_at dksX0_count_0 0 rfl rfl)
theorem dX0_count_1 : decode cX0_count 1 = .ok (.tableswitch 75 0 5 #[39, 47, 55, 60, 65, 70], 39) := by decide +kernel
theorem dX0_count_40 : decode cX0_count 40 = .ok (.aload_n 0, 1) := dk_42 (dk_at dksX0_count_2 0 rfl rfl)
theorem dX0_count_41 : decode cX0_count 41 = .ok (.getfield 25, 3) := dk_180 0 25 (dk_at dksX0_count_2 1 rfl rfl)
theorem dX0_count_44 : decode cX0_count 44 = .ok (.invokevirtual 86, 3) := dk_182 0 86 (dk_at dksX0_count_2 4 rfl rfl)
theorem dX0_count_47 : decode cX0_count 47 = .ok (.ireturn, 1) := dk_172 (dk_at dksX0_count_2 7 rfl rfl)
theorem dX0_count_48 : decode cX0_count 48 = .ok (.aload_n 0, 1) := dk_42 (dk_at dksX0_count_2 8 rfl rfl)
theorem dX0_count_49 : decode cX0_count 49 = .ok (.getfield 90, 3) := dk_180 0 90 (dk_at dksX0_count_2 9 rfl rfl)
theorem dX0_count_52 : decode cX0_count 52 = .ok (.invokestatic 93, 3) := dk_184 0 93 (dk_at dksX0_count_2 12 rfl rfl)
theorem dX0_count_55 : decode cX0_count 55 = .ok (.ireturn, 1) := dk_172 (dk_at dksX0_count_2 15 rfl rfl)
theorem dX0_count_56 : decode cX0_count 56 = .ok (.aload_n 0, 1) := dk_42 (dk_at dksX0_count_2 16 rfl rfl)
theorem dX0_count_57 : decode cX0_count 57 = .ok (.getfield 99, 3) := dk_180 0 99 (dk_at dksX0_count_2 17 rfl rfl)
theorem dX0_count_60 : decode cX0_count 60 = .ok (.ireturn, 1) := dk_172 (dk_at dksX0_count_2 20 rfl rfl)
theorem dX0_count_61 : decode cX0_count 61 = .ok (.aload_n 0, 1) := dk_42 (dk_at dksX0_count_2 21 rfl rfl)
theorem dX0_count_62 : decode cX0_count 62 = .ok (.getfield 83, 3) := dk_180 0 83 (dk_at dksX0_count_3 0 rfl rfl)
theorem dX0_count_65 : decode cX0_count 65 = .ok (.ireturn, 1) := dk_172 (dk_at dksX0_count_3 3 rfl rfl)
theorem dX0_count_66 : decode cX0_count 66 = .ok (.aload_n 0, 1) := dk_42 (dk_at dksX0_count_3 4 rfl rfl)
theorem dX0_count_67 : decode cX0_count 67 = .ok (.getfield 102, 3) := dk_180 0 102 (dk_at dksX0_count_3 5 rfl rfl)
theorem dX0_count_70 : decode cX0_count 70 = .ok (.ireturn, 1) := dk_172 (dk_at dksX0_count_3 8 rfl rfl)
theorem dX0_count_71 : decode cX0_count 71 = .ok (.aload_n 0, 1) := dk_42 (dk_at dksX0_count_3 9 rfl rfl)
theorem dX0_count_72 : decode cX0_count 72 = .ok (.getfield 105, 3) := dk_180 0 105 (dk_at dksX0_count_3 10 rfl rfl)
theorem dX0_count_75 : decode cX0_count 75 = .ok (.ireturn, 1) := dk_172 (dk_at dksX0_count_3 13 rfl rfl)
theorem dX0_count_76 : decode cX0_count 76 = .ok (.bipush (-2), 2) := dk_16 254 (dk_at dksX0_count_3 14 rfl rfl)
theorem dX0_count_78 : decode cX0_count 78 = .ok (.ireturn, 1) := dk_172 (dk_at dksX0_count_3 16 rfl rfl)
abbrev cX0_shore : ByteArray := prog_1_method_5_code
def yX0_shore : MethodName := ⟨RX0, "shore", "(II)I"⟩
def dkwX0_shore_2 : List UInt8 := [180, 0, 90, 62, 27, 154, 0, 11, 42, 28, 181, 0, 99, 167, 0, 8, 42, 28, 181, 0, 90, 29, 172]
abbrev dktX0_shore_2 : List UInt8 := dkwX0_shore_2 ++ []
def dkwX0_shore_1 : List UInt8 := [20, 0, 114, 184, 0, 108, 154, 0, 6, 16, 254, 172, 27, 154, 0, 10, 42, 180, 0, 99, 167, 0, 7, 42]
abbrev dktX0_shore_1 : List UInt8 := dkwX0_shore_1 ++ dktX0_shore_2
def dkwX0_shore_0 : List UInt8 := [27, 133, 9, 10, 184, 0, 108, 153, 0, 25, 28, 133, 9, 27, 154, 0, 9, 20, 0, 112, 167, 0, 6]
abbrev dktX0_shore_0 : List UInt8 := dkwX0_shore_0 ++ dktX0_shore_1
theorem dksX0_shore_0 : cX0_shore.data.toList.drop 0 = dktX0_shore_0 := by decide +kernel
theorem dksX0_shore_1 : cX0_shore.data.toList.drop 23 = dktX0_shore_1 := dk_seg dksX0_shore_0 23 rfl rfl
theorem dksX0_shore_2 : cX0_shore.data.toList.drop 47 = dktX0_shore_2 := dk_seg dksX0_shore_1 24 rfl rfl
theorem dX0_shore_0 : decode cX0_shore 0 = .ok (.iload_n 1, 1) := dk_27 (dk_at dksX0_shore_0 0 rfl rfl)
theorem dX0_shore_1 : decode cX0_shore 1 = .ok (.i2l, 1) := dk_133 (dk_at dksX0_shore_0 1 rfl rfl)
theorem dX0_shore_2 : decode cX0_shore 2 = .ok (.lconst 0, 1) := dk_9 (dk_at dksX0_shore_0 2 rfl rfl)
theorem dX0_shore_3 : decode cX0_shore 3 = .ok (.lconst 1, 1) := dk_10 (dk_at dksX0_shore_0 3 rfl rfl)
theorem dX0_shore_4 : decode cX0_shore 4 = .ok (.invokestatic 108, 3) := dk_184 0 108 (dk_at dksX0_shore_0 4 rfl rfl)
theorem dX0_shore_7 : decode cX0_shore 7 = .ok (.ifCond .eq 25, 3) := dk_153 0 25 (dk_at dksX0_shore_0 7 rfl rfl)
theorem dX0_shore_10 : decode cX0_shore 10 = .ok (.iload_n 2, 1) := dk_28 (dk_at dksX0_shore_0 10 rfl rfl)
theorem dX0_shore_11 : decode cX0_shore 11 = .ok (.i2l, 1) := dk_133 (dk_at dksX0_shore_0 11 rfl rfl)
theorem dX0_shore_12 : decode cX0_shore 12 = .ok (.lconst 0, 1) := dk_9 (dk_at dksX0_shore_0 12 rfl rfl)
theorem dX0_shore_13 : decode cX0_shore 13 = .ok (.iload_n 1, 1) := dk_27 (dk_at dksX0_shore_0 13 rfl rfl)
theorem dX0_shore_14 : decode cX0_shore 14 = .ok (.ifCond .ne 9, 3) := dk_154 0 9 (dk_at dksX0_shore_0 14 rfl rfl)
theorem dX0_shore_17 : decode cX0_shore 17 = .ok (.ldc2_w 112, 3) := dk_20 0 112 (dk_at dksX0_shore_0 17 rfl rfl)
theorem dX0_shore_20 : decode cX0_shore 20 = .ok (.goto 6, 3) := dk_167 0 6 (dk_at dksX0_shore_0 20 rfl rfl)
theorem dX0_shore_23 : decode cX0_shore 23 = .ok (.ldc2_w 114, 3) := dk_20 0 114 (dk_at dksX0_shore_1 0 rfl rfl)
theorem dX0_shore_26 : decode cX0_shore 26 = .ok (.invokestatic 108, 3) := dk_184 0 108 (dk_at dksX0_shore_1 3 rfl rfl)
theorem dX0_shore_29 : decode cX0_shore 29 = .ok (.ifCond .ne 6, 3) := dk_154 0 6 (dk_at dksX0_shore_1 6 rfl rfl)
theorem dX0_shore_32 : decode cX0_shore 32 = .ok (.bipush (-2), 2) := dk_16 254 (dk_at dksX0_shore_1 9 rfl rfl)
theorem dX0_shore_34 : decode cX0_shore 34 = .ok (.ireturn, 1) := dk_172 (dk_at dksX0_shore_1 11 rfl rfl)
theorem dX0_shore_35 : decode cX0_shore 35 = .ok (.iload_n 1, 1) := dk_27 (dk_at dksX0_shore_1 12 rfl rfl)
theorem dX0_shore_36 : decode cX0_shore 36 = .ok (.ifCond .ne 10, 3) := dk_154 0 10 (dk_at dksX0_shore_1 13 rfl rfl)
theorem dX0_shore_39 : decode cX0_shore 39 = .ok (.aload_n 0, 1) := dk_42 (dk_at dksX0_shore_1 16 rfl rfl)
theorem dX0_shore_40 : decode cX0_shore 40 = .ok (.getfield 99, 3) := dk_180 0 99 (dk_at dksX0_shore_1 17 rfl rfl)
theorem dX0_shore_43 : decode cX0_shore 43 = .ok (.goto 7, 3) := dk_167 0 7 (dk_at dksX0_shore_1 20 rfl rfl)
theorem dX0_shore_46 : decode cX0_shore 46 = .ok (.aload_n 0, 1) := dk_42 (dk_at dksX0_shore_1 23 rfl rfl)
theorem dX0_shore_47 : decode cX0_shore 47 = .ok (.getfield 90, 3) := dk_180 0 90 (dk_at dksX0_shore_2 0 rfl rfl)
theorem dX0_shore_50 : decode cX0_shore 50 = .ok (.istore_n 3, 1) := dk_62 (dk_at dksX0_shore_2 3 rfl rfl)
theorem dX0_shore_51 : decode cX0_shore 51 = .ok (.iload_n 1, 1) := dk_27 (dk_at dksX0_shore_2 4 rfl rfl)
theorem dX0_shore_52 : decode cX0_shore 52 = .ok (.ifCond .ne 11, 3) := dk_154 0 11 (dk_at dksX0_shore_2 5 rfl rfl)
theorem dX0_shore_55 : decode cX0_shore 55 = .ok (.aload_n 0, 1) := dk_42 (dk_at dksX0_shore_2 8 rfl rfl)
theorem dX0_shore_56 : decode cX0_shore 56 = .ok (.iload_n 2, 1) := dk_28 (dk_at dksX0_shore_2 9 rfl rfl)
theorem dX0_shore_57 : decode cX0_shore 57 = .ok (.putfield 99, 3) := dk_181 0 99 (dk_at dksX0_shore_2 10 rfl rfl)
theorem dX0_shore_60 : decode cX0_shore 60 = .ok (.goto 8, 3) := dk_167 0 8 (dk_at dksX0_shore_2 13 rfl rfl)
theorem dX0_shore_63 : decode cX0_shore 63 = .ok (.aload_n 0, 1) := dk_42 (dk_at dksX0_shore_2 16 rfl rfl)
theorem dX0_shore_64 : decode cX0_shore 64 = .ok (.iload_n 2, 1) := dk_28 (dk_at dksX0_shore_2 17 rfl rfl)
theorem dX0_shore_65 : decode cX0_shore 65 = .ok (.putfield 90, 3) := dk_181 0 90 (dk_at dksX0_shore_2 18 rfl rfl)
theorem dX0_shore_68 : decode cX0_shore 68 = .ok (.iload_n 3, 1) := dk_29 (dk_at dksX0_shore_2 21 rfl rfl)
theorem dX0_shore_69 : decode cX0_shore 69 = .ok (.ireturn, 1) := dk_172 (dk_at dksX0_shore_2 22 rfl rfl)
abbrev cX0_asks : ByteArray := prog_1_method_7_code
def yX0_asks : MethodName := ⟨RX0, "asks", "(III)I"⟩
def dkwX0_asks_1 : List UInt8 := [153, 0, 13, 42, 27, 28, 29, 182, 0, 144, 167, 0, 6, 17, 252, 24, 172]
abbrev dktX0_asks_1 : List UInt8 := dkwX0_asks_1 ++ []
def dkwX0_asks_0 : List UInt8 := [27, 133, 9, 20, 0, 135, 184, 0, 108, 153, 0, 28, 42, 28, 182, 0, 137, 153, 0, 20, 29, 184, 0, 141]
abbrev dktX0_asks_0 : List UInt8 := dkwX0_asks_0 ++ dktX0_asks_1
theorem dksX0_asks_0 : cX0_asks.data.toList.drop 0 = dktX0_asks_0 := by decide +kernel
theorem dksX0_asks_1 : cX0_asks.data.toList.drop 24 = dktX0_asks_1 := dk_seg dksX0_asks_0 24 rfl rfl
theorem dX0_asks_0 : decode cX0_asks 0 = .ok (.iload_n 1, 1) := dk_27 (dk_at dksX0_asks_0 0 rfl rfl)
theorem dX0_asks_1 : decode cX0_asks 1 = .ok (.i2l, 1) := dk_133 (dk_at dksX0_asks_0 1 rfl rfl)
theorem dX0_asks_2 : decode cX0_asks 2 = .ok (.lconst 0, 1) := dk_9 (dk_at dksX0_asks_0 2 rfl rfl)
theorem dX0_asks_3 : decode cX0_asks 3 = .ok (.ldc2_w 135, 3) := dk_20 0 135 (dk_at dksX0_asks_0 3 rfl rfl)
theorem dX0_asks_6 : decode cX0_asks 6 = .ok (.invokestatic 108, 3) := dk_184 0 108 (dk_at dksX0_asks_0 6 rfl rfl)
theorem dX0_asks_9 : decode cX0_asks 9 = .ok (.ifCond .eq 28, 3) := dk_153 0 28 (dk_at dksX0_asks_0 9 rfl rfl)
theorem dX0_asks_12 : decode cX0_asks 12 = .ok (.aload_n 0, 1) := dk_42 (dk_at dksX0_asks_0 12 rfl rfl)
theorem dX0_asks_13 : decode cX0_asks 13 = .ok (.iload_n 2, 1) := dk_28 (dk_at dksX0_asks_0 13 rfl rfl)
theorem dX0_asks_14 : decode cX0_asks 14 = .ok (.invokevirtual 137, 3) := dk_182 0 137 (dk_at dksX0_asks_0 14 rfl rfl)
theorem dX0_asks_17 : decode cX0_asks 17 = .ok (.ifCond .eq 20, 3) := dk_153 0 20 (dk_at dksX0_asks_0 17 rfl rfl)
theorem dX0_asks_20 : decode cX0_asks 20 = .ok (.iload_n 3, 1) := dk_29 (dk_at dksX0_asks_0 20 rfl rfl)
theorem dX0_asks_21 : decode cX0_asks 21 = .ok (.invokestatic 141, 3) := dk_184 0 141 (dk_at dksX0_asks_0 21 rfl rfl)
theorem dX0_asks_24 : decode cX0_asks 24 = .ok (.ifCond .eq 13, 3) := dk_153 0 13 (dk_at dksX0_asks_1 0 rfl rfl)
theorem dX0_asks_27 : decode cX0_asks 27 = .ok (.aload_n 0, 1) := dk_42 (dk_at dksX0_asks_1 3 rfl rfl)
theorem dX0_asks_28 : decode cX0_asks 28 = .ok (.iload_n 1, 1) := dk_27 (dk_at dksX0_asks_1 4 rfl rfl)
theorem dX0_asks_29 : decode cX0_asks 29 = .ok (.iload_n 2, 1) := dk_28 (dk_at dksX0_asks_1 5 rfl rfl)
theorem dX0_asks_30 : decode cX0_asks 30 = .ok (.iload_n 3, 1) := dk_29 (dk_at dksX0_asks_1 6 rfl rfl)
theorem dX0_asks_31 : decode cX0_asks 31 = .ok (.invokevirtual 144, 3) := dk_182 0 144 (dk_at dksX0_asks_1 7 rfl rfl)
theorem dX0_asks_34 : decode cX0_asks 34 = .ok (.goto 6, 3) := dk_167 0 6 (dk_at dksX0_asks_1 10 rfl rfl)
theorem dX0_asks_37 : decode cX0_asks 37 = .ok (.sipush (-1000), 3) := dk_17 252 24 (dk_at dksX0_asks_1 13 rfl rfl)
theorem dX0_asks_40 : decode cX0_asks 40 = .ok (.ireturn, 1) := dk_172 (dk_at dksX0_asks_1 16 rfl rfl)
abbrev cX0_isOne : ByteArray := prog_1_method_10_code
def yX0_isOne : MethodName := ⟨RX0, "isOne", "(I)Z"⟩
def dkwX0_isOne_0 : List UInt8 := [27, 133, 9, 42, 180, 0, 25, 182, 0, 86, 133, 10, 101, 184, 0, 108, 172]
abbrev dktX0_isOne_0 : List UInt8 := dkwX0_isOne_0 ++ []
theorem dksX0_isOne_0 : cX0_isOne.data.toList.drop 0 = dktX0_isOne_0 := by decide +kernel
theorem dX0_isOne_0 : decode cX0_isOne 0 = .ok (.iload_n 1, 1) := dk_27 (dk_at dksX0_isOne_0 0 rfl rfl)
theorem dX0_isOne_1 : decode cX0_isOne 1 = .ok (.i2l, 1) := dk_133 (dk_at dksX0_isOne_0 1 rfl rfl)
theorem dX0_isOne_2 : decode cX0_isOne 2 = .ok (.lconst 0, 1) := dk_9 (dk_at dksX0_isOne_0 2 rfl rfl)
theorem dX0_isOne_3 : decode cX0_isOne 3 = .ok (.aload_n 0, 1) := dk_42 (dk_at dksX0_isOne_0 3 rfl rfl)
theorem dX0_isOne_4 : decode cX0_isOne 4 = .ok (.getfield 25, 3) := dk_180 0 25 (dk_at dksX0_isOne_0 4 rfl rfl)
theorem dX0_isOne_7 : decode cX0_isOne 7 = .ok (.invokevirtual 86, 3) := dk_182 0 86 (dk_at dksX0_isOne_0 7 rfl rfl)
theorem dX0_isOne_10 : decode cX0_isOne 10 = .ok (.i2l, 1) := dk_133 (dk_at dksX0_isOne_0 10 rfl rfl)
theorem dX0_isOne_11 : decode cX0_isOne 11 = .ok (.lconst 1, 1) := dk_10 (dk_at dksX0_isOne_0 11 rfl rfl)
theorem dX0_isOne_12 : decode cX0_isOne 12 = .ok (.lsub, 1) := dk_101 (dk_at dksX0_isOne_0 12 rfl rfl)
theorem dX0_isOne_13 : decode cX0_isOne 13 = .ok (.invokestatic 108, 3) := dk_184 0 108 (dk_at dksX0_isOne_0 13 rfl rfl)
theorem dX0_isOne_16 : decode cX0_isOne 16 = .ok (.ireturn, 1) := dk_172 (dk_at dksX0_isOne_0 16 rfl rfl)
abbrev cX0_isThing : ByteArray := prog_1_method_11_code
def yX0_isThing : MethodName := ⟨RX0, "isThing", "(I)Z"⟩
def dkwX0_isThing_0 : List UInt8 := [26, 133, 9, 20, 0, 165, 184, 0, 108, 172]
abbrev dktX0_isThing_0 : List UInt8 := dkwX0_isThing_0 ++ []
theorem dksX0_isThing_0 : cX0_isThing.data.toList.drop 0 = dktX0_isThing_0 := by decide +kernel
theorem dX0_isThing_0 : decode cX0_isThing 0 = .ok (.iload_n 0, 1) := dk_26 (dk_at dksX0_isThing_0 0 rfl rfl)
theorem dX0_isThing_1 : decode cX0_isThing 1 = .ok (.i2l, 1) := dk_133 (dk_at dksX0_isThing_0 1 rfl rfl)
theorem dX0_isThing_2 : decode cX0_isThing 2 = .ok (.lconst 0, 1) := dk_9 (dk_at dksX0_isThing_0 2 rfl rfl)
theorem dX0_isThing_3 : decode cX0_isThing 3 = .ok (.ldc2_w 165, 3) := dk_20 0 165 (dk_at dksX0_isThing_0 3 rfl rfl)
theorem dX0_isThing_6 : decode cX0_isThing 6 = .ok (.invokestatic 108, 3) := dk_184 0 108 (dk_at dksX0_isThing_0 6 rfl rfl)
theorem dX0_isThing_9 : decode cX0_isThing 9 = .ok (.ireturn, 1) := dk_172 (dk_at dksX0_isThing_0 9 rfl rfl)
abbrev cX0_says : ByteArray := prog_1_method_6_code
def yX0_says : MethodName := ⟨RX0, "says", "(III)I"⟩
def dkwX0_says_5 : List UInt8 := [16, 157, 27, 5, 160, 0, 8, 16, 16, 167, 0, 5, 16, 99, 184, 0, 131, 172]
abbrev dktX0_says_5 : List UInt8 := dkwX0_says_5 ++ []
def dkwX0_says_4 : List UInt8 := [180, 0, 102, 50, 27, 50, 42, 180, 0, 16, 185, 0, 125, 2, 0, 27, 5, 160, 0, 7, 3, 167, 0, 5]
abbrev dktX0_says_4 : List UInt8 := dkwX0_says_4 ++ dktX0_says_5
def dkwX0_says_3 : List UInt8 := [180, 0, 16, 8, 42, 180, 0, 25, 28, 182, 0, 116, 192, 0, 120, 180, 0, 122, 79, 42, 180, 0, 62, 42]
abbrev dktX0_says_3 : List UInt8 := dkwX0_says_3 ++ dktX0_says_4
def dkwX0_says_2 : List UInt8 := [42, 180, 0, 16, 6, 42, 180, 0, 99, 79, 42, 180, 0, 16, 7, 42, 180, 0, 35, 28, 46, 79, 42]
abbrev dktX0_says_2 : List UInt8 := dkwX0_says_2 ++ dktX0_says_3
def dkwX0_says_1 : List UInt8 := [180, 0, 29, 28, 46, 184, 0, 93, 79, 42, 180, 0, 16, 5, 42, 180, 0, 32, 28, 46, 184, 0, 93, 79]
abbrev dktX0_says_1 : List UInt8 := dkwX0_says_1 ++ dktX0_says_2
def dkwX0_says_0 : List UInt8 := [42, 180, 0, 16, 3, 27, 5, 160, 0, 7, 3, 167, 0, 4, 29, 79, 42, 180, 0, 16, 4, 42]
abbrev dktX0_says_0 : List UInt8 := dkwX0_says_0 ++ dktX0_says_1
theorem dksX0_says_0 : cX0_says.data.toList.drop 0 = dktX0_says_0 := by decide +kernel
theorem dksX0_says_1 : cX0_says.data.toList.drop 22 = dktX0_says_1 := dk_seg dksX0_says_0 22 rfl rfl
theorem dksX0_says_2 : cX0_says.data.toList.drop 46 = dktX0_says_2 := dk_seg dksX0_says_1 24 rfl rfl
theorem dksX0_says_3 : cX0_says.data.toList.drop 69 = dktX0_says_3 := dk_seg dksX0_says_2 23 rfl rfl
theorem dksX0_says_4 : cX0_says.data.toList.drop 93 = dktX0_says_4 := dk_seg dksX0_says_3 24 rfl rfl
theorem dksX0_says_5 : cX0_says.data.toList.drop 117 = dktX0_says_5 := dk_seg dksX0_says_4 24 rfl rfl
theorem dX0_says_0 : decode cX0_says 0 = .ok (.aload_n 0, 1) := dk_42 (dk_at dksX0_says_0 0 rfl rfl)
theorem dX0_says_1 : decode cX0_says 1 = .ok (.getfield 16, 3) := dk_180 0 16 (dk_at dksX0_says_0 1 rfl rfl)
theorem dX0_says_4 : decode cX0_says 4 = .ok (.iconst 0, 1) := dk_3 (dk_at dksX0_says_0 4 rfl rfl)
theorem dX0_says_5 : decode cX0_says 5 = .ok (.iload_n 1, 1) := dk_27 (dk_at dksX0_says_0 5 rfl rfl)
theorem dX0_says_6 : decode cX0_says 6 = .ok (.iconst 2, 1) := dk_5 (dk_at dksX0_says_0 6 rfl rfl)
theorem dX0_says_7 : decode cX0_says 7 = .ok (.if_icmp .ne 7, 3) := dk_160 0 7 (dk_at dksX0_says_0 7 rfl rfl)
theorem dX0_says_10 : decode cX0_says 10 = .ok (.iconst 0, 1) := dk_3 (dk_at dksX0_says_0 10 rfl rfl)
theorem dX0_says_11 : decode cX0_says 11 = .ok (.goto 4, 3) := dk_167 0 4 (dk_at dksX0_says_0 11 rfl rfl)
theorem dX0_says_14 : decode cX0_says 14 = .ok (.iload_n 3, 1) := dk_29 (dk_at dksX0_says_0 14 rfl rfl)
theorem dX0_says_15 : decode cX0_says 15 = .ok (.iastore, 1) := dk_79 (dk_at dksX0_says_0 15 rfl rfl)
theorem dX0_says_16 : decode cX0_says 16 = .ok (.aload_n 0, 1) := dk_42 (dk_at dksX0_says_0 16 rfl rfl)
theorem dX0_says_17 : decode cX0_says 17 = .ok (.getfield 16, 3) := dk_180 0 16 (dk_at dksX0_says_0 17 rfl rfl)
theorem dX0_says_20 : decode cX0_says 20 = .ok (.iconst 1, 1) := dk_4 (dk_at dksX0_says_0 20 rfl rfl)
theorem dX0_says_21 : decode cX0_says 21 = .ok (.aload_n 0, 1) := dk_42 (dk_at dksX0_says_0 21 rfl rfl)
theorem dX0_says_22 : decode cX0_says 22 = .ok (.getfield 29, 3) := dk_180 0 29 (dk_at dksX0_says_1 0 rfl rfl)
theorem dX0_says_25 : decode cX0_says 25 = .ok (.iload_n 2, 1) := dk_28 (dk_at dksX0_says_1 3 rfl rfl)
theorem dX0_says_26 : decode cX0_says 26 = .ok (.iaload, 1) := dk_46 (dk_at dksX0_says_1 4 rfl rfl)
theorem dX0_says_27 : decode cX0_says 27 = .ok (.invokestatic 93, 3) := dk_184 0 93 (dk_at dksX0_says_1 5 rfl rfl)
theorem dX0_says_30 : decode cX0_says 30 = .ok (.iastore, 1) := dk_79 (dk_at dksX0_says_1 8 rfl rfl)
theorem dX0_says_31 : decode cX0_says 31 = .ok (.aload_n 0, 1) := dk_42 (dk_at dksX0_says_1 9 rfl rfl)
theorem dX0_says_32 : decode cX0_says 32 = .ok (.getfield 16, 3) := dk_180 0 16 (dk_at dksX0_says_1 10 rfl rfl)
theorem dX0_says_35 : decode cX0_says 35 = .ok (.iconst 2, 1) := dk_5 (dk_at dksX0_says_1 13 rfl rfl)
theorem dX0_says_36 : decode cX0_says 36 = .ok (.aload_n 0, 1) := dk_42 (dk_at dksX0_says_1 14 rfl rfl)
theorem dX0_says_37 : decode cX0_says 37 = .ok (.getfield 32, 3) := dk_180 0 32 (dk_at dksX0_says_1 15 rfl rfl)
theorem dX0_says_40 : decode cX0_says 40 = .ok (.iload_n 2, 1) := dk_28 (dk_at dksX0_says_1 18 rfl rfl)
theorem dX0_says_41 : decode cX0_says 41 = .ok (.iaload, 1) := dk_46 (dk_at dksX0_says_1 19 rfl rfl)
theorem dX0_says_42 : decode cX0_says 42 = .ok (.invokestatic 93, 3) := dk_184 0 93 (dk_at dksX0_says_1 20 rfl rfl)
theorem dX0_says_45 : decode cX0_says 45 = .ok (.iastore, 1) := dk_79 (dk_at dksX0_says_1 23 rfl rfl)
theorem dX0_says_46 : decode cX0_says 46 = .ok (.aload_n 0, 1) := dk_42 (dk_at dksX0_says_2 0 rfl rfl)
theorem dX0_says_47 : decode cX0_says 47 = .ok (.getfield 16, 3) := dk_180 0 16 (dk_at dksX0_says_2 1 rfl rfl)
theorem dX0_says_50 : decode cX0_says 50 = .ok (.iconst 3, 1) := dk_6 (dk_at dksX0_says_2 4 rfl rfl)
theorem dX0_says_51 : decode cX0_says 51 = .ok (.aload_n 0, 1) := dk_42 (dk_at dksX0_says_2 5 rfl rfl)
theorem dX0_says_52 : decode cX0_says 52 = .ok (.getfield 99, 3) := dk_180 0 99 (dk_at dksX0_says_2 6 rfl rfl)
theorem dX0_says_55 : decode cX0_says 55 = .ok (.iastore, 1) := dk_79 (dk_at dksX0_says_2 9 rfl rfl)
theorem dX0_says_56 : decode cX0_says 56 = .ok (.aload_n 0, 1) := dk_42 (dk_at dksX0_says_2 10 rfl rfl)
theorem dX0_says_57 : decode cX0_says 57 = .ok (.getfield 16, 3) := dk_180 0 16 (dk_at dksX0_says_2 11 rfl rfl)
theorem dX0_says_60 : decode cX0_says 60 = .ok (.iconst 4, 1) := dk_7 (dk_at dksX0_says_2 14 rfl rfl)
theorem dX0_says_61 : decode cX0_says 61 = .ok (.aload_n 0, 1) := dk_42 (dk_at dksX0_says_2 15 rfl rfl)
theorem dX0_says_62 : decode cX0_says 62 = .ok (.getfield 35, 3) := dk_180 0 35 (dk_at dksX0_says_2 16 rfl rfl)
theorem dX0_says_65 : decode cX0_says 65 = .ok (.iload_n 2, 1) := dk_28 (dk_at dksX0_says_2 19 rfl rfl)
theorem dX0_says_66 : decode cX0_says 66 = .ok (.iaload, 1) := dk_46 (dk_at dksX0_says_2 20 rfl rfl)
theorem dX0_says_67 : decode cX0_says 67 = .ok (.iastore, 1) := dk_79 (dk_at dksX0_says_2 21 rfl rfl)
theorem dX0_says_68 : decode cX0_says 68 = .ok (.aload_n 0, 1) := dk_42 (dk_at dksX0_says_2 22 rfl rfl)
theorem dX0_says_69 : decode cX0_says 69 = .ok (.getfield 16, 3) := dk_180 0 16 (dk_at dksX0_says_3 0 rfl rfl)
theorem dX0_says_72 : decode cX0_says 72 = .ok (.iconst 5, 1) := dk_8 (dk_at dksX0_says_3 3 rfl rfl)
theorem dX0_says_73 : decode cX0_says 73 = .ok (.aload_n 0, 1) := dk_42 (dk_at dksX0_says_3 4 rfl rfl)
theorem dX0_says_74 : decode cX0_says 74 = .ok (.getfield 25, 3) := dk_180 0 25 (dk_at dksX0_says_3 5 rfl rfl)
theorem dX0_says_77 : decode cX0_says 77 = .ok (.iload_n 2, 1) := dk_28 (dk_at dksX0_says_3 8 rfl rfl)
theorem dX0_says_78 : decode cX0_says 78 = .ok (.invokevirtual 116, 3) := dk_182 0 116 (dk_at dksX0_says_3 9 rfl rfl)
theorem dX0_says_81 : decode cX0_says 81 = .ok (.checkcast 120, 3) := dk_192 0 120 (dk_at dksX0_says_3 12 rfl rfl)
theorem dX0_says_84 : decode cX0_says 84 = .ok (.getfield 122, 3) := dk_180 0 122 (dk_at dksX0_says_3 15 rfl rfl)
theorem dX0_says_87 : decode cX0_says 87 = .ok (.iastore, 1) := dk_79 (dk_at dksX0_says_3 18 rfl rfl)
theorem dX0_says_88 : decode cX0_says 88 = .ok (.aload_n 0, 1) := dk_42 (dk_at dksX0_says_3 19 rfl rfl)
theorem dX0_says_89 : decode cX0_says 89 = .ok (.getfield 62, 3) := dk_180 0 62 (dk_at dksX0_says_3 20 rfl rfl)
theorem dX0_says_92 : decode cX0_says 92 = .ok (.aload_n 0, 1) := dk_42 (dk_at dksX0_says_3 23 rfl rfl)
theorem dX0_says_93 : decode cX0_says 93 = .ok (.getfield 102, 3) := dk_180 0 102 (dk_at dksX0_says_4 0 rfl rfl)
theorem dX0_says_96 : decode cX0_says 96 = .ok (.aaload, 1) := dk_50 (dk_at dksX0_says_4 3 rfl rfl)
theorem dX0_says_97 : decode cX0_says 97 = .ok (.iload_n 1, 1) := dk_27 (dk_at dksX0_says_4 4 rfl rfl)
theorem dX0_says_98 : decode cX0_says 98 = .ok (.aaload, 1) := dk_50 (dk_at dksX0_says_4 5 rfl rfl)
theorem dX0_says_99 : decode cX0_says 99 = .ok (.aload_n 0, 1) := dk_42 (dk_at dksX0_says_4 6 rfl rfl)
theorem dX0_says_100 : decode cX0_says 100 = .ok (.getfield 16, 3) := dk_180 0 16 (dk_at dksX0_says_4 7 rfl rfl)
theorem dX0_says_103 : decode cX0_says 103 = .ok (.invokeinterface 125 2, 5) := by decide +kernel
theorem dX0_says_108 : decode cX0_says 108 = .ok (.iload_n 1, 1) := dk_27 (dk_at dksX0_says_4 15 rfl rfl)
theorem dX0_says_109 : decode cX0_says 109 = .ok (.iconst 2, 1) := dk_5 (dk_at dksX0_says_4 16 rfl rfl)
theorem dX0_says_110 : decode cX0_says 110 = .ok (.if_icmp .ne 7, 3) := dk_160 0 7 (dk_at dksX0_says_4 17 rfl rfl)
theorem dX0_says_113 : decode cX0_says 113 = .ok (.iconst 0, 1) := dk_3 (dk_at dksX0_says_4 20 rfl rfl)
theorem dX0_says_114 : decode cX0_says 114 = .ok (.goto 5, 3) := dk_167 0 5 (dk_at dksX0_says_4 21 rfl rfl)
theorem dX0_says_117 : decode cX0_says 117 = .ok (.bipush (-99), 2) := dk_16 157 (dk_at dksX0_says_5 0 rfl rfl)
theorem dX0_says_119 : decode cX0_says 119 = .ok (.iload_n 1, 1) := dk_27 (dk_at dksX0_says_5 2 rfl rfl)
theorem dX0_says_120 : decode cX0_says 120 = .ok (.iconst 2, 1) := dk_5 (dk_at dksX0_says_5 3 rfl rfl)
theorem dX0_says_121 : decode cX0_says 121 = .ok (.if_icmp .ne 8, 3) := dk_160 0 8 (dk_at dksX0_says_5 4 rfl rfl)
theorem dX0_says_124 : decode cX0_says 124 = .ok (.bipush 16, 2) := dk_16 16 (dk_at dksX0_says_5 7 rfl rfl)
theorem dX0_says_126 : decode cX0_says 126 = .ok (.goto 5, 3) := dk_167 0 5 (dk_at dksX0_says_5 9 rfl rfl)
theorem dX0_says_129 : decode cX0_says 129 = .ok (.bipush 99, 2) := dk_16 99 (dk_at dksX0_says_5 12 rfl rfl)
theorem dX0_says_131 : decode cX0_says 131 = .ok (.invokestatic 131, 3) := dk_184 0 131 (dk_at dksX0_says_5 14 rfl rfl)
theorem dX0_says_134 : decode cX0_says 134 = .ok (.ireturn, 1) := dk_172 (dk_at dksX0_says_5 17 rfl rfl)
abbrev cX0_within : ByteArray := prog_1_method_2_code
def yX0_within : MethodName := ⟨RX0, "within", "(III)I"⟩
def dkwX0_within_0 : List UInt8 := [27, 28, 26, 184, 0, 1, 184, 0, 7, 172]
abbrev dktX0_within_0 : List UInt8 := dkwX0_within_0 ++ []
theorem dksX0_within_0 : cX0_within.data.toList.drop 0 = dktX0_within_0 := by decide +kernel
theorem dX0_within_0 : decode cX0_within 0 = .ok (.iload_n 1, 1) := dk_27 (dk_at dksX0_within_0 0 rfl rfl)
theorem dX0_within_1 : decode cX0_within 1 = .ok (.iload_n 2, 1) := dk_28 (dk_at dksX0_within_0 1 rfl rfl)
theorem dX0_within_2 : decode cX0_within 2 = .ok (.iload_n 0, 1) := dk_26 (dk_at dksX0_within_0 2 rfl rfl)
theorem dX0_within_3 : decode cX0_within 3 = .ok (.invokestatic 1, 3) := dk_184 0 1 (dk_at dksX0_within_0 3 rfl rfl)
theorem dX0_within_6 : decode cX0_within 6 = .ok (.invokestatic 7, 3) := dk_184 0 7 (dk_at dksX0_within_0 6 rfl rfl)
theorem dX0_within_9 : decode cX0_within 9 = .ok (.ireturn, 1) := dk_172 (dk_at dksX0_within_0 9 rfl rfl)
abbrev cX0_fisher : ByteArray := prog_1_method_13_code
def yX0_fisher : MethodName := ⟨RX0, "fisher", "(II)I"⟩
def dkwX0_fisher_4 : List UInt8 := [29, 172]
abbrev dktX0_fisher_4 : List UInt8 := dkwX0_fisher_4 ++ []
def dkwX0_fisher_3 : List UInt8 := [16, 50, 79, 42, 180, 0, 25, 42, 29, 27, 16, 10, 108, 27, 16, 10, 112, 182, 0, 169, 182, 0, 173, 87]
abbrev dktX0_fisher_3 : List UInt8 := dkwX0_fisher_3 ++ dktX0_fisher_4
def dkwX0_fisher_2 : List UInt8 := [182, 0, 86, 62, 42, 180, 0, 29, 29, 28, 79, 42, 180, 0, 32, 29, 3, 79, 42, 180, 0, 35, 29]
abbrev dktX0_fisher_2 : List UInt8 := dkwX0_fisher_2 ++ dktX0_fisher_3
def dkwX0_fisher_1 : List UInt8 := [16, 254, 172, 42, 180, 0, 25, 182, 0, 86, 16, 6, 160, 0, 6, 16, 252, 172, 42, 180, 0, 25]
abbrev dktX0_fisher_1 : List UInt8 := dkwX0_fisher_1 ++ dktX0_fisher_2
def dkwX0_fisher_0 : List UInt8 := [27, 133, 9, 20, 0, 167, 184, 0, 108, 153, 0, 15, 28, 133, 9, 20, 0, 114, 184, 0, 108, 154, 0, 6]
abbrev dktX0_fisher_0 : List UInt8 := dkwX0_fisher_0 ++ dktX0_fisher_1
theorem dksX0_fisher_0 : cX0_fisher.data.toList.drop 0 = dktX0_fisher_0 := by decide +kernel
theorem dksX0_fisher_1 : cX0_fisher.data.toList.drop 24 = dktX0_fisher_1 := dk_seg dksX0_fisher_0 24 rfl rfl
theorem dksX0_fisher_2 : cX0_fisher.data.toList.drop 46 = dktX0_fisher_2 := dk_seg dksX0_fisher_1 22 rfl rfl
theorem dksX0_fisher_3 : cX0_fisher.data.toList.drop 69 = dktX0_fisher_3 := dk_seg dksX0_fisher_2 23 rfl rfl
theorem dksX0_fisher_4 : cX0_fisher.data.toList.drop 93 = dktX0_fisher_4 := dk_seg dksX0_fisher_3 24 rfl rfl
theorem dX0_fisher_0 : decode cX0_fisher 0 = .ok (.iload_n 1, 1) := dk_27 (dk_at dksX0_fisher_0 0 rfl rfl)
theorem dX0_fisher_1 : decode cX0_fisher 1 = .ok (.i2l, 1) := dk_133 (dk_at dksX0_fisher_0 1 rfl rfl)
theorem dX0_fisher_2 : decode cX0_fisher 2 = .ok (.lconst 0, 1) := dk_9 (dk_at dksX0_fisher_0 2 rfl rfl)
theorem dX0_fisher_3 : decode cX0_fisher 3 = .ok (.ldc2_w 167, 3) := dk_20 0 167 (dk_at dksX0_fisher_0 3 rfl rfl)
theorem dX0_fisher_6 : decode cX0_fisher 6 = .ok (.invokestatic 108, 3) := dk_184 0 108 (dk_at dksX0_fisher_0 6 rfl rfl)
theorem dX0_fisher_9 : decode cX0_fisher 9 = .ok (.ifCond .eq 15, 3) := dk_153 0 15 (dk_at dksX0_fisher_0 9 rfl rfl)
theorem dX0_fisher_12 : decode cX0_fisher 12 = .ok (.iload_n 2, 1) := dk_28 (dk_at dksX0_fisher_0 12 rfl rfl)
theorem dX0_fisher_13 : decode cX0_fisher 13 = .ok (.i2l, 1) := dk_133 (dk_at dksX0_fisher_0 13 rfl rfl)
theorem dX0_fisher_14 : decode cX0_fisher 14 = .ok (.lconst 0, 1) := dk_9 (dk_at dksX0_fisher_0 14 rfl rfl)
theorem dX0_fisher_15 : decode cX0_fisher 15 = .ok (.ldc2_w 114, 3) := dk_20 0 114 (dk_at dksX0_fisher_0 15 rfl rfl)
theorem dX0_fisher_18 : decode cX0_fisher 18 = .ok (.invokestatic 108, 3) := dk_184 0 108 (dk_at dksX0_fisher_0 18 rfl rfl)
theorem dX0_fisher_21 : decode cX0_fisher 21 = .ok (.ifCond .ne 6, 3) := dk_154 0 6 (dk_at dksX0_fisher_0 21 rfl rfl)
theorem dX0_fisher_24 : decode cX0_fisher 24 = .ok (.bipush (-2), 2) := dk_16 254 (dk_at dksX0_fisher_1 0 rfl rfl)
theorem dX0_fisher_26 : decode cX0_fisher 26 = .ok (.ireturn, 1) := dk_172 (dk_at dksX0_fisher_1 2 rfl rfl)
theorem dX0_fisher_27 : decode cX0_fisher 27 = .ok (.aload_n 0, 1) := dk_42 (dk_at dksX0_fisher_1 3 rfl rfl)
theorem dX0_fisher_28 : decode cX0_fisher 28 = .ok (.getfield 25, 3) := dk_180 0 25 (dk_at dksX0_fisher_1 4 rfl rfl)
theorem dX0_fisher_31 : decode cX0_fisher 31 = .ok (.invokevirtual 86, 3) := dk_182 0 86 (dk_at dksX0_fisher_1 7 rfl rfl)
theorem dX0_fisher_34 : decode cX0_fisher 34 = .ok (.bipush 6, 2) := dk_16 6 (dk_at dksX0_fisher_1 10 rfl rfl)
theorem dX0_fisher_36 : decode cX0_fisher 36 = .ok (.if_icmp .ne 6, 3) := dk_160 0 6 (dk_at dksX0_fisher_1 12 rfl rfl)
theorem dX0_fisher_39 : decode cX0_fisher 39 = .ok (.bipush (-4), 2) := dk_16 252 (dk_at dksX0_fisher_1 15 rfl rfl)
theorem dX0_fisher_41 : decode cX0_fisher 41 = .ok (.ireturn, 1) := dk_172 (dk_at dksX0_fisher_1 17 rfl rfl)
theorem dX0_fisher_42 : decode cX0_fisher 42 = .ok (.aload_n 0, 1) := dk_42 (dk_at dksX0_fisher_1 18 rfl rfl)
theorem dX0_fisher_43 : decode cX0_fisher 43 = .ok (.getfield 25, 3) := dk_180 0 25 (dk_at dksX0_fisher_1 19 rfl rfl)
theorem dX0_fisher_46 : decode cX0_fisher 46 = .ok (.invokevirtual 86, 3) := dk_182 0 86 (dk_at dksX0_fisher_2 0 rfl rfl)
theorem dX0_fisher_49 : decode cX0_fisher 49 = .ok (.istore_n 3, 1) := dk_62 (dk_at dksX0_fisher_2 3 rfl rfl)
theorem dX0_fisher_50 : decode cX0_fisher 50 = .ok (.aload_n 0, 1) := dk_42 (dk_at dksX0_fisher_2 4 rfl rfl)
theorem dX0_fisher_51 : decode cX0_fisher 51 = .ok (.getfield 29, 3) := dk_180 0 29 (dk_at dksX0_fisher_2 5 rfl rfl)
theorem dX0_fisher_54 : decode cX0_fisher 54 = .ok (.iload_n 3, 1) := dk_29 (dk_at dksX0_fisher_2 8 rfl rfl)
theorem dX0_fisher_55 : decode cX0_fisher 55 = .ok (.iload_n 2, 1) := dk_28 (dk_at dksX0_fisher_2 9 rfl rfl)
theorem dX0_fisher_56 : decode cX0_fisher 56 = .ok (.iastore, 1) := dk_79 (dk_at dksX0_fisher_2 10 rfl rfl)
theorem dX0_fisher_57 : decode cX0_fisher 57 = .ok (.aload_n 0, 1) := dk_42 (dk_at dksX0_fisher_2 11 rfl rfl)
theorem dX0_fisher_58 : decode cX0_fisher 58 = .ok (.getfield 32, 3) := dk_180 0 32 (dk_at dksX0_fisher_2 12 rfl rfl)
theorem dX0_fisher_61 : decode cX0_fisher 61 = .ok (.iload_n 3, 1) := dk_29 (dk_at dksX0_fisher_2 15 rfl rfl)
theorem dX0_fisher_62 : decode cX0_fisher 62 = .ok (.iconst 0, 1) := dk_3 (dk_at dksX0_fisher_2 16 rfl rfl)
theorem dX0_fisher_63 : decode cX0_fisher 63 = .ok (.iastore, 1) := dk_79 (dk_at dksX0_fisher_2 17 rfl rfl)
theorem dX0_fisher_64 : decode cX0_fisher 64 = .ok (.aload_n 0, 1) := dk_42 (dk_at dksX0_fisher_2 18 rfl rfl)
theorem dX0_fisher_65 : decode cX0_fisher 65 = .ok (.getfield 35, 3) := dk_180 0 35 (dk_at dksX0_fisher_2 19 rfl rfl)
theorem dX0_fisher_68 : decode cX0_fisher 68 = .ok (.iload_n 3, 1) := dk_29 (dk_at dksX0_fisher_2 22 rfl rfl)
theorem dX0_fisher_69 : decode cX0_fisher 69 = .ok (.bipush 50, 2) := dk_16 50 (dk_at dksX0_fisher_3 0 rfl rfl)
theorem dX0_fisher_71 : decode cX0_fisher 71 = .ok (.iastore, 1) := dk_79 (dk_at dksX0_fisher_3 2 rfl rfl)
theorem dX0_fisher_72 : decode cX0_fisher 72 = .ok (.aload_n 0, 1) := dk_42 (dk_at dksX0_fisher_3 3 rfl rfl)
theorem dX0_fisher_73 : decode cX0_fisher 73 = .ok (.getfield 25, 3) := dk_180 0 25 (dk_at dksX0_fisher_3 4 rfl rfl)
theorem dX0_fisher_76 : decode cX0_fisher 76 = .ok (.aload_n 0, 1) := dk_42 (dk_at dksX0_fisher_3 7 rfl rfl)
theorem dX0_fisher_77 : decode cX0_fisher 77 = .ok (.iload_n 3, 1) := dk_29 (dk_at dksX0_fisher_3 8 rfl rfl)
theorem dX0_fisher_78 : decode cX0_fisher 78 = .ok (.iload_n 1, 1) := dk_27 (dk_at dksX0_fisher_3 9 rfl rfl)
theorem dX0_fisher_79 : decode cX0_fisher 79 = .ok (.bipush 10, 2) := dk_16 10 (dk_at dksX0_fisher_3 10 rfl rfl)
theorem dX0_fisher_81 : decode cX0_fisher 81 = .ok (.idiv, 1) := dk_108 (dk_at dksX0_fisher_3 12 rfl rfl)
theorem dX0_fisher_82 : decode cX0_fisher 82 = .ok (.iload_n 1, 1) := dk_27 (dk_at dksX0_fisher_3 13 rfl rfl)
theorem dX0_fisher_83 : decode cX0_fisher 83 = .ok (.bipush 10, 2) := dk_16 10 (dk_at dksX0_fisher_3 14 rfl rfl)
theorem dX0_fisher_85 : decode cX0_fisher 85 = .ok (.irem, 1) := dk_112 (dk_at dksX0_fisher_3 16 rfl rfl)
theorem dX0_fisher_86 : decode cX0_fisher 86 = .ok (.invokevirtual 169, 3) := dk_182 0 169 (dk_at dksX0_fisher_3 17 rfl rfl)
theorem dX0_fisher_89 : decode cX0_fisher 89 = .ok (.invokevirtual 173, 3) := dk_182 0 173 (dk_at dksX0_fisher_3 20 rfl rfl)
theorem dX0_fisher_92 : decode cX0_fisher 92 = .ok (.pop, 1) := dk_87 (dk_at dksX0_fisher_3 23 rfl rfl)
theorem dX0_fisher_93 : decode cX0_fisher 93 = .ok (.iload_n 3, 1) := dk_29 (dk_at dksX0_fisher_4 0 rfl rfl)
theorem dX0_fisher_94 : decode cX0_fisher 94 = .ok (.ireturn, 1) := dk_172 (dk_at dksX0_fisher_4 1 rfl rfl)
abbrev cX0_made : ByteArray := prog_1_method_8_code
def yX0_made : MethodName := ⟨RX0, "made", "(III)LNameThrownBack$Fisher;"⟩
def dkwX0_made_4 : List UInt8 := [187, 0, 159, 89, 42, 27, 29, 183, 0, 161, 176, 187, 0, 162, 89, 42, 27, 29, 183, 0, 164, 176]
abbrev dktX0_made_4 : List UInt8 := dkwX0_made_4 ++ []
def dkwX0_made_3 : List UInt8 := [187, 0, 153, 89, 42, 27, 29, 183, 0, 155, 176, 187, 0, 156, 89, 42, 27, 29, 183, 0, 158, 176]
abbrev dktX0_made_3 : List UInt8 := dkwX0_made_3 ++ dktX0_made_4
def dkwX0_made_2 : List UInt8 := [187, 0, 120, 89, 42, 27, 29, 183, 0, 147, 176, 187, 0, 150, 89, 42, 27, 29, 183, 0, 152, 176]
abbrev dktX0_made_2 : List UInt8 := dkwX0_made_2 ++ dktX0_made_3
def dkwX0_made_1 : List UInt8 := [170, 0, 0, 0, 0, 0, 90, 0, 0, 0, 0, 0, 0, 0, 4, 0, 0, 0, 35, 0, 0, 0, 46, 0, 0, 0, 57, 0, 0, 0, 68, 0, 0, 0, 79]
abbrev dktX0_made_1 : List UInt8 := dkwX0_made_1 ++ dktX0_made_2
def dkwX0_made_0 : List UInt8 := [28]
abbrev dktX0_made_0 : List UInt8 := dkwX0_made_0 ++ dktX0_made_1
theorem dksX0_made_0 : cX0_made.data.toList.drop 0 = dktX0_made_0 := by decide +kernel
theorem dksX0_made_1 : cX0_made.data.toList.drop 1 = dktX0_made_1 := dk_seg dksX0_made_0 1 rfl rfl
theorem dksX0_made_2 : cX0_made.data.toList.drop 36 = dktX0_made_2 := dk_seg dksX0_made_1 35 rfl rfl
theorem dksX0_made_3 : cX0_made.data.toList.drop 58 = dktX0_made_3 := dk_seg dksX0_made_2 22 rfl rfl
theorem dksX0_made_4 : cX0_made.data.toList.drop 80 = dktX0_made_4 := dk_seg dksX0_made_3 22 rfl rfl
theorem dX0_made_0 : decode cX0_made 0 = .ok (.iload_n 2, 1) := dk_28 (dk_at dksX0_made_0 0 rfl rfl)
theorem dX0_made_1 : decode cX0_made 1 = .ok (.tableswitch 90 0 4 #[35, 46, 57, 68, 79], 35) := by decide +kernel
theorem dX0_made_36 : decode cX0_made 36 = .ok (.new 120, 3) := dk_187 0 120 (dk_at dksX0_made_2 0 rfl rfl)
theorem dX0_made_39 : decode cX0_made 39 = .ok (.dup, 1) := dk_89 (dk_at dksX0_made_2 3 rfl rfl)
theorem dX0_made_40 : decode cX0_made 40 = .ok (.aload_n 0, 1) := dk_42 (dk_at dksX0_made_2 4 rfl rfl)
theorem dX0_made_41 : decode cX0_made 41 = .ok (.iload_n 1, 1) := dk_27 (dk_at dksX0_made_2 5 rfl rfl)
theorem dX0_made_42 : decode cX0_made 42 = .ok (.iload_n 3, 1) := dk_29 (dk_at dksX0_made_2 6 rfl rfl)
theorem dX0_made_43 : decode cX0_made 43 = .ok (.invokespecial 147, 3) := dk_183 0 147 (dk_at dksX0_made_2 7 rfl rfl)
theorem dX0_made_46 : decode cX0_made 46 = .ok (.areturn, 1) := dk_176 (dk_at dksX0_made_2 10 rfl rfl)
theorem dX0_made_47 : decode cX0_made 47 = .ok (.new 150, 3) := dk_187 0 150 (dk_at dksX0_made_2 11 rfl rfl)
theorem dX0_made_50 : decode cX0_made 50 = .ok (.dup, 1) := dk_89 (dk_at dksX0_made_2 14 rfl rfl)
theorem dX0_made_51 : decode cX0_made 51 = .ok (.aload_n 0, 1) := dk_42 (dk_at dksX0_made_2 15 rfl rfl)
theorem dX0_made_52 : decode cX0_made 52 = .ok (.iload_n 1, 1) := dk_27 (dk_at dksX0_made_2 16 rfl rfl)
theorem dX0_made_53 : decode cX0_made 53 = .ok (.iload_n 3, 1) := dk_29 (dk_at dksX0_made_2 17 rfl rfl)
theorem dX0_made_54 : decode cX0_made 54 = .ok (.invokespecial 152, 3) := dk_183 0 152 (dk_at dksX0_made_2 18 rfl rfl)
theorem dX0_made_57 : decode cX0_made 57 = .ok (.areturn, 1) := dk_176 (dk_at dksX0_made_2 21 rfl rfl)
theorem dX0_made_58 : decode cX0_made 58 = .ok (.new 153, 3) := dk_187 0 153 (dk_at dksX0_made_3 0 rfl rfl)
theorem dX0_made_61 : decode cX0_made 61 = .ok (.dup, 1) := dk_89 (dk_at dksX0_made_3 3 rfl rfl)
theorem dX0_made_62 : decode cX0_made 62 = .ok (.aload_n 0, 1) := dk_42 (dk_at dksX0_made_3 4 rfl rfl)
theorem dX0_made_63 : decode cX0_made 63 = .ok (.iload_n 1, 1) := dk_27 (dk_at dksX0_made_3 5 rfl rfl)
theorem dX0_made_64 : decode cX0_made 64 = .ok (.iload_n 3, 1) := dk_29 (dk_at dksX0_made_3 6 rfl rfl)
theorem dX0_made_65 : decode cX0_made 65 = .ok (.invokespecial 155, 3) := dk_183 0 155 (dk_at dksX0_made_3 7 rfl rfl)
theorem dX0_made_68 : decode cX0_made 68 = .ok (.areturn, 1) := dk_176 (dk_at dksX0_made_3 10 rfl rfl)
theorem dX0_made_69 : decode cX0_made 69 = .ok (.new 156, 3) := dk_187 0 156 (dk_at dksX0_made_3 11 rfl rfl)
theorem dX0_made_72 : decode cX0_made 72 = .ok (.dup, 1) := dk_89 (dk_at dksX0_made_3 14 rfl rfl)
theorem dX0_made_73 : decode cX0_made 73 = .ok (.aload_n 0, 1) := dk_42 (dk_at dksX0_made_3 15 rfl rfl)
theorem dX0_made_74 : decode cX0_made 74 = .ok (.iload_n 1, 1) := dk_27 (dk_at dksX0_made_3 16 rfl rfl)
theorem dX0_made_75 : decode cX0_made 75 = .ok (.iload_n 3, 1) := dk_29 (dk_at dksX0_made_3 17 rfl rfl)
theorem dX0_made_76 : decode cX0_made 76 = .ok (.invokespecial 158, 3) := dk_183 0 158 (dk_at dksX0_made_3 18 rfl rfl)
theorem dX0_made_79 : decode cX0_made 79 = .ok (.areturn, 1) := dk_176 (dk_at dksX0_made_3 21 rfl rfl)
theorem dX0_made_80 : decode cX0_made 80 = .ok (.new 159, 3) := dk_187 0 159 (dk_at dksX0_made_4 0 rfl rfl)
theorem dX0_made_83 : decode cX0_made 83 = .ok (.dup, 1) := dk_89 (dk_at dksX0_made_4 3 rfl rfl)
theorem dX0_made_84 : decode cX0_made 84 = .ok (.aload_n 0, 1) := dk_42 (dk_at dksX0_made_4 4 rfl rfl)
theorem dX0_made_85 : decode cX0_made 85 = .ok (.iload_n 1, 1) := dk_27 (dk_at dksX0_made_4 5 rfl rfl)
theorem dX0_made_86 : decode cX0_made 86 = .ok (.iload_n 3, 1) := dk_29 (dk_at dksX0_made_4 6 rfl rfl)
theorem dX0_made_87 : decode cX0_made 87 = .ok (.invokespecial 161, 3) := dk_183 0 161 (dk_at dksX0_made_4 7 rfl rfl)
theorem dX0_made_90 : decode cX0_made 90 = .ok (.areturn, 1) := dk_176 (dk_at dksX0_made_4 10 rfl rfl)
theorem dX0_made_91 : decode cX0_made 91 = .ok (.new 162, 3) := dk_187 0 162 (dk_at dksX0_made_4 11 rfl rfl)
theorem dX0_made_94 : decode cX0_made 94 = .ok (.dup, 1) := dk_89 (dk_at dksX0_made_4 14 rfl rfl)
theorem dX0_made_95 : decode cX0_made 95 = .ok (.aload_n 0, 1) := dk_42 (dk_at dksX0_made_4 15 rfl rfl)
theorem dX0_made_96 : decode cX0_made 96 = .ok (.iload_n 1, 1) := dk_27 (dk_at dksX0_made_4 16 rfl rfl)
theorem dX0_made_97 : decode cX0_made 97 = .ok (.iload_n 3, 1) := dk_29 (dk_at dksX0_made_4 17 rfl rfl)
theorem dX0_made_98 : decode cX0_made 98 = .ok (.invokespecial 164, 3) := dk_183 0 164 (dk_at dksX0_made_4 18 rfl rfl)
theorem dX0_made_101 : decode cX0_made 101 = .ok (.areturn, 1) := dk_176 (dk_at dksX0_made_4 21 rfl rfl)
abbrev cX0_put : ByteArray := prog_1_method_14_code
def yX0_put : MethodName := ⟨RX0, "put", "(III)I"⟩
def dkwX0_put_2 : List UInt8 := [172, 42, 27, 28, 182, 0, 179, 54, 4, 42, 27, 28, 29, 182, 0, 182, 21, 4, 172]
abbrev dktX0_put_2 : List UInt8 := dkwX0_put_2 ++ []
def dkwX0_put_1 : List UInt8 := [133, 9, 28, 5, 160, 0, 9, 20, 0, 177, 167, 0, 6, 20, 0, 114, 184, 0, 108, 154, 0, 6, 16, 249]
abbrev dktX0_put_1 : List UInt8 := dkwX0_put_1 ++ dktX0_put_2
def dkwX0_put_0 : List UInt8 := [42, 27, 182, 0, 137, 154, 0, 6, 16, 251, 172, 28, 133, 9, 20, 0, 135, 184, 0, 108, 153, 0, 26, 29]
abbrev dktX0_put_0 : List UInt8 := dkwX0_put_0 ++ dktX0_put_1
theorem dksX0_put_0 : cX0_put.data.toList.drop 0 = dktX0_put_0 := by decide +kernel
theorem dksX0_put_1 : cX0_put.data.toList.drop 24 = dktX0_put_1 := dk_seg dksX0_put_0 24 rfl rfl
theorem dksX0_put_2 : cX0_put.data.toList.drop 48 = dktX0_put_2 := dk_seg dksX0_put_1 24 rfl rfl
theorem dX0_put_0 : decode cX0_put 0 = .ok (.aload_n 0, 1) := dk_42 (dk_at dksX0_put_0 0 rfl rfl)
theorem dX0_put_1 : decode cX0_put 1 = .ok (.iload_n 1, 1) := dk_27 (dk_at dksX0_put_0 1 rfl rfl)
theorem dX0_put_2 : decode cX0_put 2 = .ok (.invokevirtual 137, 3) := dk_182 0 137 (dk_at dksX0_put_0 2 rfl rfl)
theorem dX0_put_5 : decode cX0_put 5 = .ok (.ifCond .ne 6, 3) := dk_154 0 6 (dk_at dksX0_put_0 5 rfl rfl)
theorem dX0_put_8 : decode cX0_put 8 = .ok (.bipush (-5), 2) := dk_16 251 (dk_at dksX0_put_0 8 rfl rfl)
theorem dX0_put_10 : decode cX0_put 10 = .ok (.ireturn, 1) := dk_172 (dk_at dksX0_put_0 10 rfl rfl)
theorem dX0_put_11 : decode cX0_put 11 = .ok (.iload_n 2, 1) := dk_28 (dk_at dksX0_put_0 11 rfl rfl)
theorem dX0_put_12 : decode cX0_put 12 = .ok (.i2l, 1) := dk_133 (dk_at dksX0_put_0 12 rfl rfl)
theorem dX0_put_13 : decode cX0_put 13 = .ok (.lconst 0, 1) := dk_9 (dk_at dksX0_put_0 13 rfl rfl)
theorem dX0_put_14 : decode cX0_put 14 = .ok (.ldc2_w 135, 3) := dk_20 0 135 (dk_at dksX0_put_0 14 rfl rfl)
theorem dX0_put_17 : decode cX0_put 17 = .ok (.invokestatic 108, 3) := dk_184 0 108 (dk_at dksX0_put_0 17 rfl rfl)
theorem dX0_put_20 : decode cX0_put 20 = .ok (.ifCond .eq 26, 3) := dk_153 0 26 (dk_at dksX0_put_0 20 rfl rfl)
theorem dX0_put_23 : decode cX0_put 23 = .ok (.iload_n 3, 1) := dk_29 (dk_at dksX0_put_0 23 rfl rfl)
theorem dX0_put_24 : decode cX0_put 24 = .ok (.i2l, 1) := dk_133 (dk_at dksX0_put_1 0 rfl rfl)
theorem dX0_put_25 : decode cX0_put 25 = .ok (.lconst 0, 1) := dk_9 (dk_at dksX0_put_1 1 rfl rfl)
theorem dX0_put_26 : decode cX0_put 26 = .ok (.iload_n 2, 1) := dk_28 (dk_at dksX0_put_1 2 rfl rfl)
theorem dX0_put_27 : decode cX0_put 27 = .ok (.iconst 2, 1) := dk_5 (dk_at dksX0_put_1 3 rfl rfl)
theorem dX0_put_28 : decode cX0_put 28 = .ok (.if_icmp .ne 9, 3) := dk_160 0 9 (dk_at dksX0_put_1 4 rfl rfl)
theorem dX0_put_31 : decode cX0_put 31 = .ok (.ldc2_w 177, 3) := dk_20 0 177 (dk_at dksX0_put_1 7 rfl rfl)
theorem dX0_put_34 : decode cX0_put 34 = .ok (.goto 6, 3) := dk_167 0 6 (dk_at dksX0_put_1 10 rfl rfl)
theorem dX0_put_37 : decode cX0_put 37 = .ok (.ldc2_w 114, 3) := dk_20 0 114 (dk_at dksX0_put_1 13 rfl rfl)
theorem dX0_put_40 : decode cX0_put 40 = .ok (.invokestatic 108, 3) := dk_184 0 108 (dk_at dksX0_put_1 16 rfl rfl)
theorem dX0_put_43 : decode cX0_put 43 = .ok (.ifCond .ne 6, 3) := dk_154 0 6 (dk_at dksX0_put_1 19 rfl rfl)
theorem dX0_put_46 : decode cX0_put 46 = .ok (.bipush (-7), 2) := dk_16 249 (dk_at dksX0_put_1 22 rfl rfl)
theorem dX0_put_48 : decode cX0_put 48 = .ok (.ireturn, 1) := dk_172 (dk_at dksX0_put_2 0 rfl rfl)
theorem dX0_put_49 : decode cX0_put 49 = .ok (.aload_n 0, 1) := dk_42 (dk_at dksX0_put_2 1 rfl rfl)
theorem dX0_put_50 : decode cX0_put 50 = .ok (.iload_n 1, 1) := dk_27 (dk_at dksX0_put_2 2 rfl rfl)
theorem dX0_put_51 : decode cX0_put 51 = .ok (.iload_n 2, 1) := dk_28 (dk_at dksX0_put_2 3 rfl rfl)
theorem dX0_put_52 : decode cX0_put 52 = .ok (.invokevirtual 179, 3) := dk_182 0 179 (dk_at dksX0_put_2 4 rfl rfl)
theorem dX0_put_55 : decode cX0_put 55 = .ok (.istore 4, 2) := dk_54 4 (dk_at dksX0_put_2 7 rfl rfl)
theorem dX0_put_57 : decode cX0_put 57 = .ok (.aload_n 0, 1) := dk_42 (dk_at dksX0_put_2 9 rfl rfl)
theorem dX0_put_58 : decode cX0_put 58 = .ok (.iload_n 1, 1) := dk_27 (dk_at dksX0_put_2 10 rfl rfl)
theorem dX0_put_59 : decode cX0_put 59 = .ok (.iload_n 2, 1) := dk_28 (dk_at dksX0_put_2 11 rfl rfl)
theorem dX0_put_60 : decode cX0_put 60 = .ok (.iload_n 3, 1) := dk_29 (dk_at dksX0_put_2 12 rfl rfl)
theorem dX0_put_61 : decode cX0_put 61 = .ok (.invokevirtual 182, 3) := dk_182 0 182 (dk_at dksX0_put_2 13 rfl rfl)
theorem dX0_put_64 : decode cX0_put 64 = .ok (.iload 4, 2) := dk_21 4 (dk_at dksX0_put_2 16 rfl rfl)
theorem dX0_put_66 : decode cX0_put 66 = .ok (.ireturn, 1) := dk_172 (dk_at dksX0_put_2 18 rfl rfl)
abbrev cX0_told : ByteArray := prog_1_method_16_code
def yX0_told : MethodName := ⟨RX0, "told", "(II)I"⟩
def dkwX0_told_5 : List UInt8 := [27, 182, 0, 189, 172, 16, 249, 172]
abbrev dktX0_told_5 : List UInt8 := dkwX0_told_5 ++ []
def dkwX0_told_4 : List UInt8 := [192, 0, 120, 180, 0, 122, 172, 42, 180, 0, 32, 27, 46, 42, 180, 0, 29, 27, 46, 2, 130, 126, 172, 42]
abbrev dktX0_told_4 : List UInt8 := dkwX0_told_4 ++ dktX0_told_5
def dkwX0_told_3 : List UInt8 := [180, 0, 25, 27, 182, 0, 116, 192, 0, 120, 182, 0, 186, 172, 42, 180, 0, 25, 27, 182, 0, 116]
abbrev dktX0_told_3 : List UInt8 := dkwX0_told_3 ++ dktX0_told_4
def dkwX0_told_2 : List UInt8 := [42, 180, 0, 29, 27, 46, 172, 42, 180, 0, 32, 27, 46, 172, 42, 180, 0, 35, 27, 46, 172, 42]
abbrev dktX0_told_2 : List UInt8 := dkwX0_told_2 ++ dktX0_told_3
def dkwX0_told_1 : List UInt8 := [170, 0, 0, 0, 0, 0, 0, 117, 0, 0, 0, 0, 0, 0, 0, 6, 0, 0, 0, 44, 0, 0, 0, 51, 0, 0, 0, 58, 0, 0, 0, 65, 0, 0, 0, 80, 0, 0, 0, 95, 0, 0, 0, 111]
abbrev dktX0_told_1 : List UInt8 := dkwX0_told_1 ++ dktX0_told_2
def dkwX0_told_0 : List UInt8 := [42, 27, 182, 0, 137, 154, 0, 6, 16, 251, 172, 28]
abbrev dktX0_told_0 : List UInt8 := dkwX0_told_0 ++ dktX0_told_1
theorem dksX0_told_0 : cX0_told.data.toList.drop 0 = dktX0_told_0 := by decide +kernel
theorem dksX0_told_1 : cX0_told.data.toList.drop 12 = dktX0_told_1 := dk_seg dksX0_told_0 12 rfl rfl
theorem dksX0_told_2 : cX0_told.data.toList.drop 56 = dktX0_told_2 := dk_seg dksX0_told_1 44 rfl rfl
theorem dksX0_told_3 : cX0_told.data.toList.drop 78 = dktX0_told_3 := dk_seg dksX0_told_2 22 rfl rfl
theorem dksX0_told_4 : cX0_told.data.toList.drop 100 = dktX0_told_4 := dk_seg dksX0_told_3 22 rfl rfl
theorem dksX0_told_5 : cX0_told.data.toList.drop 124 = dktX0_told_5 := dk_seg dksX0_told_4 24 rfl rfl
theorem dX0_told_0 : decode cX0_told 0 = .ok (.aload_n 0, 1) := dk_42 (dk_at dksX0_told_0 0 rfl rfl)
theorem dX0_told_1 : decode cX0_told 1 = .ok (.iload_n 1, 1) := dk_27 (dk_at dksX0_told_0 1 rfl rfl)
theorem dX0_told_2 : decode cX0_told 2 = .ok (.invokevirtual 137, 3) := dk_182 0 137 (dk_at dksX0_told_0 2 rfl rfl)
theorem dX0_told_5 : decode cX0_told 5 = .ok (.ifCond .ne 6, 3) := dk_154 0 6 (dk_at dksX0_told_0 5 rfl rfl)
theorem dX0_told_8 : decode cX0_told 8 = .ok (.bipush (-5), 2) := dk_16 251 (dk_at dksX0_told_0 8 rfl rfl)
theorem dX0_told_10 : decode cX0_told 10 = .ok (.ireturn, 1) := dk_172 (dk_at dksX0_told_0 10 rfl rfl)
theorem dX0_told_11 : decode cX0_told 11 = .ok (.iload_n 2, 1) := dk_28 (dk_at dksX0_told_0 11 rfl rfl)
theorem dX0_told_12 : decode cX0_told 12 = .ok (.tableswitch 117 0 6 #[44, 51, 58, 65, 80, 95, 111], 44) := by decide +kernel
theorem dX0_told_56 : decode cX0_told 56 = .ok (.aload_n 0, 1) := dk_42 (dk_at dksX0_told_2 0 rfl rfl)
theorem dX0_told_57 : decode cX0_told 57 = .ok (.getfield 29, 3) := dk_180 0 29 (dk_at dksX0_told_2 1 rfl rfl)
theorem dX0_told_60 : decode cX0_told 60 = .ok (.iload_n 1, 1) := dk_27 (dk_at dksX0_told_2 4 rfl rfl)
theorem dX0_told_61 : decode cX0_told 61 = .ok (.iaload, 1) := dk_46 (dk_at dksX0_told_2 5 rfl rfl)
theorem dX0_told_62 : decode cX0_told 62 = .ok (.ireturn, 1) := dk_172 (dk_at dksX0_told_2 6 rfl rfl)
theorem dX0_told_63 : decode cX0_told 63 = .ok (.aload_n 0, 1) := dk_42 (dk_at dksX0_told_2 7 rfl rfl)
theorem dX0_told_64 : decode cX0_told 64 = .ok (.getfield 32, 3) := dk_180 0 32 (dk_at dksX0_told_2 8 rfl rfl)
theorem dX0_told_67 : decode cX0_told 67 = .ok (.iload_n 1, 1) := dk_27 (dk_at dksX0_told_2 11 rfl rfl)
theorem dX0_told_68 : decode cX0_told 68 = .ok (.iaload, 1) := dk_46 (dk_at dksX0_told_2 12 rfl rfl)
theorem dX0_told_69 : decode cX0_told 69 = .ok (.ireturn, 1) := dk_172 (dk_at dksX0_told_2 13 rfl rfl)
theorem dX0_told_70 : decode cX0_told 70 = .ok (.aload_n 0, 1) := dk_42 (dk_at dksX0_told_2 14 rfl rfl)
theorem dX0_told_71 : decode cX0_told 71 = .ok (.getfield 35, 3) := dk_180 0 35 (dk_at dksX0_told_2 15 rfl rfl)
theorem dX0_told_74 : decode cX0_told 74 = .ok (.iload_n 1, 1) := dk_27 (dk_at dksX0_told_2 18 rfl rfl)
theorem dX0_told_75 : decode cX0_told 75 = .ok (.iaload, 1) := dk_46 (dk_at dksX0_told_2 19 rfl rfl)
theorem dX0_told_76 : decode cX0_told 76 = .ok (.ireturn, 1) := dk_172 (dk_at dksX0_told_2 20 rfl rfl)
theorem dX0_told_77 : decode cX0_told 77 = .ok (.aload_n 0, 1) := dk_42 (dk_at dksX0_told_2 21 rfl rfl)
theorem dX0_told_78 : decode cX0_told 78 = .ok (.getfield 25, 3) := dk_180 0 25 (dk_at dksX0_told_3 0 rfl rfl)
theorem dX0_told_81 : decode cX0_told 81 = .ok (.iload_n 1, 1) := dk_27 (dk_at dksX0_told_3 3 rfl rfl)
theorem dX0_told_82 : decode cX0_told 82 = .ok (.invokevirtual 116, 3) := dk_182 0 116 (dk_at dksX0_told_3 4 rfl rfl)
theorem dX0_told_85 : decode cX0_told 85 = .ok (.checkcast 120, 3) := dk_192 0 120 (dk_at dksX0_told_3 7 rfl rfl)
theorem dX0_told_88 : decode cX0_told 88 = .ok (.invokevirtual 186, 3) := dk_182 0 186 (dk_at dksX0_told_3 10 rfl rfl)
theorem dX0_told_91 : decode cX0_told 91 = .ok (.ireturn, 1) := dk_172 (dk_at dksX0_told_3 13 rfl rfl)
theorem dX0_told_92 : decode cX0_told 92 = .ok (.aload_n 0, 1) := dk_42 (dk_at dksX0_told_3 14 rfl rfl)
theorem dX0_told_93 : decode cX0_told 93 = .ok (.getfield 25, 3) := dk_180 0 25 (dk_at dksX0_told_3 15 rfl rfl)
theorem dX0_told_96 : decode cX0_told 96 = .ok (.iload_n 1, 1) := dk_27 (dk_at dksX0_told_3 18 rfl rfl)
theorem dX0_told_97 : decode cX0_told 97 = .ok (.invokevirtual 116, 3) := dk_182 0 116 (dk_at dksX0_told_3 19 rfl rfl)
theorem dX0_told_100 : decode cX0_told 100 = .ok (.checkcast 120, 3) := dk_192 0 120 (dk_at dksX0_told_4 0 rfl rfl)
theorem dX0_told_103 : decode cX0_told 103 = .ok (.getfield 122, 3) := dk_180 0 122 (dk_at dksX0_told_4 3 rfl rfl)
theorem dX0_told_106 : decode cX0_told 106 = .ok (.ireturn, 1) := dk_172 (dk_at dksX0_told_4 6 rfl rfl)
theorem dX0_told_107 : decode cX0_told 107 = .ok (.aload_n 0, 1) := dk_42 (dk_at dksX0_told_4 7 rfl rfl)
theorem dX0_told_108 : decode cX0_told 108 = .ok (.getfield 32, 3) := dk_180 0 32 (dk_at dksX0_told_4 8 rfl rfl)
theorem dX0_told_111 : decode cX0_told 111 = .ok (.iload_n 1, 1) := dk_27 (dk_at dksX0_told_4 11 rfl rfl)
theorem dX0_told_112 : decode cX0_told 112 = .ok (.iaload, 1) := dk_46 (dk_at dksX0_told_4 12 rfl rfl)
theorem dX0_told_113 : decode cX0_told 113 = .ok (.aload_n 0, 1) := dk_42 (dk_at dksX0_told_4 13 rfl rfl)
theorem dX0_told_114 : decode cX0_told 114 = .ok (.getfield 29, 3) := dk_180 0 29 (dk_at dksX0_told_4 14 rfl rfl)
theorem dX0_told_117 : decode cX0_told 117 = .ok (.iload_n 1, 1) := dk_27 (dk_at dksX0_told_4 17 rfl rfl)
theorem dX0_told_118 : decode cX0_told 118 = .ok (.iaload, 1) := dk_46 (dk_at dksX0_told_4 18 rfl rfl)
theorem dX0_told_119 : decode cX0_told 119 = .ok (.iconst (-1), 1) := dk_2 (dk_at dksX0_told_4 19 rfl rfl)
theorem dX0_told_120 : decode cX0_told 120 = .ok (.ixor, 1) := dk_130 (dk_at dksX0_told_4 20 rfl rfl)
theorem dX0_told_121 : decode cX0_told 121 = .ok (.iand, 1) := dk_126 (dk_at dksX0_told_4 21 rfl rfl)
theorem dX0_told_122 : decode cX0_told 122 = .ok (.ireturn, 1) := dk_172 (dk_at dksX0_told_4 22 rfl rfl)
theorem dX0_told_123 : decode cX0_told 123 = .ok (.aload_n 0, 1) := dk_42 (dk_at dksX0_told_4 23 rfl rfl)
theorem dX0_told_124 : decode cX0_told 124 = .ok (.iload_n 1, 1) := dk_27 (dk_at dksX0_told_5 0 rfl rfl)
theorem dX0_told_125 : decode cX0_told 125 = .ok (.invokevirtual 189, 3) := dk_182 0 189 (dk_at dksX0_told_5 1 rfl rfl)
theorem dX0_told_128 : decode cX0_told 128 = .ok (.ireturn, 1) := dk_172 (dk_at dksX0_told_5 4 rfl rfl)
theorem dX0_told_129 : decode cX0_told 129 = .ok (.bipush (-7), 2) := dk_16 249 (dk_at dksX0_told_5 5 rfl rfl)
theorem dX0_told_131 : decode cX0_told 131 = .ok (.ireturn, 1) := dk_172 (dk_at dksX0_told_5 7 rfl rfl)
abbrev cX0_takesOf : ByteArray := prog_1_method_17_code
def yX0_takesOf : MethodName := ⟨RX0, "takesOf", "(I)I"⟩
def dkwX0_takesOf_1 : List UInt8 := [184, 0, 7, 172]
abbrev dktX0_takesOf_1 : List UInt8 := dkwX0_takesOf_1 ++ []
def dkwX0_takesOf_0 : List UInt8 := [3, 42, 180, 0, 25, 27, 182, 0, 116, 192, 0, 120, 42, 5, 27, 3, 182, 0, 144, 182, 0, 192]
abbrev dktX0_takesOf_0 : List UInt8 := dkwX0_takesOf_0 ++ dktX0_takesOf_1
theorem dksX0_takesOf_0 : cX0_takesOf.data.toList.drop 0 = dktX0_takesOf_0 := by decide +kernel
theorem dksX0_takesOf_1 : cX0_takesOf.data.toList.drop 22 = dktX0_takesOf_1 := dk_seg dksX0_takesOf_0 22 rfl rfl
theorem dX0_takesOf_0 : decode cX0_takesOf 0 = .ok (.iconst 0, 1) := dk_3 (dk_at dksX0_takesOf_0 0 rfl rfl)
theorem dX0_takesOf_1 : decode cX0_takesOf 1 = .ok (.aload_n 0, 1) := dk_42 (dk_at dksX0_takesOf_0 1 rfl rfl)
theorem dX0_takesOf_2 : decode cX0_takesOf 2 = .ok (.getfield 25, 3) := dk_180 0 25 (dk_at dksX0_takesOf_0 2 rfl rfl)
theorem dX0_takesOf_5 : decode cX0_takesOf 5 = .ok (.iload_n 1, 1) := dk_27 (dk_at dksX0_takesOf_0 5 rfl rfl)
theorem dX0_takesOf_6 : decode cX0_takesOf 6 = .ok (.invokevirtual 116, 3) := dk_182 0 116 (dk_at dksX0_takesOf_0 6 rfl rfl)
theorem dX0_takesOf_9 : decode cX0_takesOf 9 = .ok (.checkcast 120, 3) := dk_192 0 120 (dk_at dksX0_takesOf_0 9 rfl rfl)
theorem dX0_takesOf_12 : decode cX0_takesOf 12 = .ok (.aload_n 0, 1) := dk_42 (dk_at dksX0_takesOf_0 12 rfl rfl)
theorem dX0_takesOf_13 : decode cX0_takesOf 13 = .ok (.iconst 2, 1) := dk_5 (dk_at dksX0_takesOf_0 13 rfl rfl)
theorem dX0_takesOf_14 : decode cX0_takesOf 14 = .ok (.iload_n 1, 1) := dk_27 (dk_at dksX0_takesOf_0 14 rfl rfl)
theorem dX0_takesOf_15 : decode cX0_takesOf 15 = .ok (.iconst 0, 1) := dk_3 (dk_at dksX0_takesOf_0 15 rfl rfl)
theorem dX0_takesOf_16 : decode cX0_takesOf 16 = .ok (.invokevirtual 144, 3) := dk_182 0 144 (dk_at dksX0_takesOf_0 16 rfl rfl)
theorem dX0_takesOf_19 : decode cX0_takesOf 19 = .ok (.invokevirtual 192, 3) := dk_182 0 192 (dk_at dksX0_takesOf_0 19 rfl rfl)
theorem dX0_takesOf_22 : decode cX0_takesOf 22 = .ok (.invokestatic 7, 3) := dk_184 0 7 (dk_at dksX0_takesOf_1 0 rfl rfl)
theorem dX0_takesOf_25 : decode cX0_takesOf 25 = .ok (.ireturn, 1) := dk_172 (dk_at dksX0_takesOf_1 3 rfl rfl)
abbrev cX0_lays : ByteArray := prog_1_method_15_code
def yX0_lays : MethodName := ⟨RX0, "lays", "(III)V"⟩
def dkwX0_lays_1 : List UInt8 := [29, 79, 167, 0, 10, 42, 180, 0, 35, 27, 29, 79, 177]
abbrev dktX0_lays_1 : List UInt8 := dkwX0_lays_1 ++ []
def dkwX0_lays_0 : List UInt8 := [28, 154, 0, 13, 42, 180, 0, 29, 27, 29, 79, 167, 0, 25, 28, 4, 160, 0, 13, 42, 180, 0, 32, 27]
abbrev dktX0_lays_0 : List UInt8 := dkwX0_lays_0 ++ dktX0_lays_1
theorem dksX0_lays_0 : cX0_lays.data.toList.drop 0 = dktX0_lays_0 := by decide +kernel
theorem dksX0_lays_1 : cX0_lays.data.toList.drop 24 = dktX0_lays_1 := dk_seg dksX0_lays_0 24 rfl rfl
theorem dX0_lays_0 : decode cX0_lays 0 = .ok (.iload_n 2, 1) := dk_28 (dk_at dksX0_lays_0 0 rfl rfl)
theorem dX0_lays_1 : decode cX0_lays 1 = .ok (.ifCond .ne 13, 3) := dk_154 0 13 (dk_at dksX0_lays_0 1 rfl rfl)
theorem dX0_lays_4 : decode cX0_lays 4 = .ok (.aload_n 0, 1) := dk_42 (dk_at dksX0_lays_0 4 rfl rfl)
theorem dX0_lays_5 : decode cX0_lays 5 = .ok (.getfield 29, 3) := dk_180 0 29 (dk_at dksX0_lays_0 5 rfl rfl)
theorem dX0_lays_8 : decode cX0_lays 8 = .ok (.iload_n 1, 1) := dk_27 (dk_at dksX0_lays_0 8 rfl rfl)
theorem dX0_lays_9 : decode cX0_lays 9 = .ok (.iload_n 3, 1) := dk_29 (dk_at dksX0_lays_0 9 rfl rfl)
theorem dX0_lays_10 : decode cX0_lays 10 = .ok (.iastore, 1) := dk_79 (dk_at dksX0_lays_0 10 rfl rfl)
theorem dX0_lays_11 : decode cX0_lays 11 = .ok (.goto 25, 3) := dk_167 0 25 (dk_at dksX0_lays_0 11 rfl rfl)
theorem dX0_lays_14 : decode cX0_lays 14 = .ok (.iload_n 2, 1) := dk_28 (dk_at dksX0_lays_0 14 rfl rfl)
theorem dX0_lays_15 : decode cX0_lays 15 = .ok (.iconst 1, 1) := dk_4 (dk_at dksX0_lays_0 15 rfl rfl)
theorem dX0_lays_16 : decode cX0_lays 16 = .ok (.if_icmp .ne 13, 3) := dk_160 0 13 (dk_at dksX0_lays_0 16 rfl rfl)
theorem dX0_lays_19 : decode cX0_lays 19 = .ok (.aload_n 0, 1) := dk_42 (dk_at dksX0_lays_0 19 rfl rfl)
theorem dX0_lays_20 : decode cX0_lays 20 = .ok (.getfield 32, 3) := dk_180 0 32 (dk_at dksX0_lays_0 20 rfl rfl)
theorem dX0_lays_23 : decode cX0_lays 23 = .ok (.iload_n 1, 1) := dk_27 (dk_at dksX0_lays_0 23 rfl rfl)
theorem dX0_lays_24 : decode cX0_lays 24 = .ok (.iload_n 3, 1) := dk_29 (dk_at dksX0_lays_1 0 rfl rfl)
theorem dX0_lays_25 : decode cX0_lays 25 = .ok (.iastore, 1) := dk_79 (dk_at dksX0_lays_1 1 rfl rfl)
theorem dX0_lays_26 : decode cX0_lays 26 = .ok (.goto 10, 3) := dk_167 0 10 (dk_at dksX0_lays_1 2 rfl rfl)
theorem dX0_lays_29 : decode cX0_lays 29 = .ok (.aload_n 0, 1) := dk_42 (dk_at dksX0_lays_1 5 rfl rfl)
theorem dX0_lays_30 : decode cX0_lays 30 = .ok (.getfield 35, 3) := dk_180 0 35 (dk_at dksX0_lays_1 6 rfl rfl)
theorem dX0_lays_33 : decode cX0_lays 33 = .ok (.iload_n 1, 1) := dk_27 (dk_at dksX0_lays_1 9 rfl rfl)
theorem dX0_lays_34 : decode cX0_lays 34 = .ok (.iload_n 3, 1) := dk_29 (dk_at dksX0_lays_1 10 rfl rfl)
theorem dX0_lays_35 : decode cX0_lays 35 = .ok (.iastore, 1) := dk_79 (dk_at dksX0_lays_1 11 rfl rfl)
theorem dX0_lays_36 : decode cX0_lays 36 = .ok (.return_, 1) := dk_177 (dk_at dksX0_lays_1 12 rfl rfl)
abbrev cX0_lands : ByteArray := prog_1_method_18_code
def yX0_lands : MethodName := ⟨RX0, "lands", "(III)I"⟩
def dkwX0_lands_2 : List UInt8 := [27, 28, 182, 0, 198, 172]
abbrev dktX0_lands_2 : List UInt8 := dkwX0_lands_2 ++ []
def dkwX0_lands_1 : List UInt8 := [184, 0, 108, 154, 0, 7, 17, 228, 168, 172, 29, 154, 0, 12, 42, 27, 28, 182, 0, 195, 167, 0, 9, 42]
abbrev dktX0_lands_1 : List UInt8 := dkwX0_lands_1 ++ dktX0_lands_2
def dkwX0_lands_0 : List UInt8 := [42, 27, 182, 0, 137, 153, 0, 10, 28, 184, 0, 141, 154, 0, 7, 17, 236, 120, 172, 29, 133, 9, 10]
abbrev dktX0_lands_0 : List UInt8 := dkwX0_lands_0 ++ dktX0_lands_1
theorem dksX0_lands_0 : cX0_lands.data.toList.drop 0 = dktX0_lands_0 := by decide +kernel
theorem dksX0_lands_1 : cX0_lands.data.toList.drop 23 = dktX0_lands_1 := dk_seg dksX0_lands_0 23 rfl rfl
theorem dksX0_lands_2 : cX0_lands.data.toList.drop 47 = dktX0_lands_2 := dk_seg dksX0_lands_1 24 rfl rfl
theorem dX0_lands_0 : decode cX0_lands 0 = .ok (.aload_n 0, 1) := dk_42 (dk_at dksX0_lands_0 0 rfl rfl)
theorem dX0_lands_1 : decode cX0_lands 1 = .ok (.iload_n 1, 1) := dk_27 (dk_at dksX0_lands_0 1 rfl rfl)
theorem dX0_lands_2 : decode cX0_lands 2 = .ok (.invokevirtual 137, 3) := dk_182 0 137 (dk_at dksX0_lands_0 2 rfl rfl)
theorem dX0_lands_5 : decode cX0_lands 5 = .ok (.ifCond .eq 10, 3) := dk_153 0 10 (dk_at dksX0_lands_0 5 rfl rfl)
theorem dX0_lands_8 : decode cX0_lands 8 = .ok (.iload_n 2, 1) := dk_28 (dk_at dksX0_lands_0 8 rfl rfl)
theorem dX0_lands_9 : decode cX0_lands 9 = .ok (.invokestatic 141, 3) := dk_184 0 141 (dk_at dksX0_lands_0 9 rfl rfl)
theorem dX0_lands_12 : decode cX0_lands 12 = .ok (.ifCond .ne 7, 3) := dk_154 0 7 (dk_at dksX0_lands_0 12 rfl rfl)
theorem dX0_lands_15 : decode cX0_lands 15 = .ok (.sipush (-5000), 3) := dk_17 236 120 (dk_at dksX0_lands_0 15 rfl rfl)
theorem dX0_lands_18 : decode cX0_lands 18 = .ok (.ireturn, 1) := dk_172 (dk_at dksX0_lands_0 18 rfl rfl)
theorem dX0_lands_19 : decode cX0_lands 19 = .ok (.iload_n 3, 1) := dk_29 (dk_at dksX0_lands_0 19 rfl rfl)
theorem dX0_lands_20 : decode cX0_lands 20 = .ok (.i2l, 1) := dk_133 (dk_at dksX0_lands_0 20 rfl rfl)
theorem dX0_lands_21 : decode cX0_lands 21 = .ok (.lconst 0, 1) := dk_9 (dk_at dksX0_lands_0 21 rfl rfl)
theorem dX0_lands_22 : decode cX0_lands 22 = .ok (.lconst 1, 1) := dk_10 (dk_at dksX0_lands_0 22 rfl rfl)
theorem dX0_lands_23 : decode cX0_lands 23 = .ok (.invokestatic 108, 3) := dk_184 0 108 (dk_at dksX0_lands_1 0 rfl rfl)
theorem dX0_lands_26 : decode cX0_lands 26 = .ok (.ifCond .ne 7, 3) := dk_154 0 7 (dk_at dksX0_lands_1 3 rfl rfl)
theorem dX0_lands_29 : decode cX0_lands 29 = .ok (.sipush (-7000), 3) := dk_17 228 168 (dk_at dksX0_lands_1 6 rfl rfl)
theorem dX0_lands_32 : decode cX0_lands 32 = .ok (.ireturn, 1) := dk_172 (dk_at dksX0_lands_1 9 rfl rfl)
theorem dX0_lands_33 : decode cX0_lands 33 = .ok (.iload_n 3, 1) := dk_29 (dk_at dksX0_lands_1 10 rfl rfl)
theorem dX0_lands_34 : decode cX0_lands 34 = .ok (.ifCond .ne 12, 3) := dk_154 0 12 (dk_at dksX0_lands_1 11 rfl rfl)
theorem dX0_lands_37 : decode cX0_lands 37 = .ok (.aload_n 0, 1) := dk_42 (dk_at dksX0_lands_1 14 rfl rfl)
theorem dX0_lands_38 : decode cX0_lands 38 = .ok (.iload_n 1, 1) := dk_27 (dk_at dksX0_lands_1 15 rfl rfl)
theorem dX0_lands_39 : decode cX0_lands 39 = .ok (.iload_n 2, 1) := dk_28 (dk_at dksX0_lands_1 16 rfl rfl)
theorem dX0_lands_40 : decode cX0_lands 40 = .ok (.invokevirtual 195, 3) := dk_182 0 195 (dk_at dksX0_lands_1 17 rfl rfl)
theorem dX0_lands_43 : decode cX0_lands 43 = .ok (.goto 9, 3) := dk_167 0 9 (dk_at dksX0_lands_1 20 rfl rfl)
theorem dX0_lands_46 : decode cX0_lands 46 = .ok (.aload_n 0, 1) := dk_42 (dk_at dksX0_lands_1 23 rfl rfl)
theorem dX0_lands_47 : decode cX0_lands 47 = .ok (.iload_n 1, 1) := dk_27 (dk_at dksX0_lands_2 0 rfl rfl)
theorem dX0_lands_48 : decode cX0_lands 48 = .ok (.iload_n 2, 1) := dk_28 (dk_at dksX0_lands_2 1 rfl rfl)
theorem dX0_lands_49 : decode cX0_lands 49 = .ok (.invokevirtual 198, 3) := dk_182 0 198 (dk_at dksX0_lands_2 2 rfl rfl)
theorem dX0_lands_52 : decode cX0_lands 52 = .ok (.ireturn, 1) := dk_172 (dk_at dksX0_lands_2 5 rfl rfl)
abbrev cX0_letsOf : ByteArray := prog_1_method_20_code
def yX0_letsOf : MethodName := ⟨RX0, "letsOf", "(II)I"⟩
def dkwX0_letsOf_2 : List UInt8 := [4, 100, 184, 0, 131, 184, 0, 204, 172]
abbrev dktX0_letsOf_2 : List UInt8 := dkwX0_letsOf_2 ++ []
def dkwX0_letsOf_1 : List UInt8 := [42, 180, 0, 25, 27, 182, 0, 116, 192, 0, 120, 42, 3, 27, 28, 182, 0, 144, 29, 182, 0, 201, 3, 29]
abbrev dktX0_letsOf_1 : List UInt8 := dkwX0_letsOf_1 ++ dktX0_letsOf_2
def dkwX0_letsOf_0 : List UInt8 := [42, 180, 0, 29, 27, 46, 184, 0, 93, 62, 29, 154, 0, 7, 2, 167, 0, 41, 42, 180, 0, 29, 27, 46]
abbrev dktX0_letsOf_0 : List UInt8 := dkwX0_letsOf_0 ++ dktX0_letsOf_1
theorem dksX0_letsOf_0 : cX0_letsOf.data.toList.drop 0 = dktX0_letsOf_0 := by decide +kernel
theorem dksX0_letsOf_1 : cX0_letsOf.data.toList.drop 24 = dktX0_letsOf_1 := dk_seg dksX0_letsOf_0 24 rfl rfl
theorem dksX0_letsOf_2 : cX0_letsOf.data.toList.drop 48 = dktX0_letsOf_2 := dk_seg dksX0_letsOf_1 24 rfl rfl
theorem dX0_letsOf_0 : decode cX0_letsOf 0 = .ok (.aload_n 0, 1) := dk_42 (dk_at dksX0_letsOf_0 0 rfl rfl)
theorem dX0_letsOf_1 : decode cX0_letsOf 1 = .ok (.getfield 29, 3) := dk_180 0 29 (dk_at dksX0_letsOf_0 1 rfl rfl)
theorem dX0_letsOf_4 : decode cX0_letsOf 4 = .ok (.iload_n 1, 1) := dk_27 (dk_at dksX0_letsOf_0 4 rfl rfl)
theorem dX0_letsOf_5 : decode cX0_letsOf 5 = .ok (.iaload, 1) := dk_46 (dk_at dksX0_letsOf_0 5 rfl rfl)
theorem dX0_letsOf_6 : decode cX0_letsOf 6 = .ok (.invokestatic 93, 3) := dk_184 0 93 (dk_at dksX0_letsOf_0 6 rfl rfl)
theorem dX0_letsOf_9 : decode cX0_letsOf 9 = .ok (.istore_n 3, 1) := dk_62 (dk_at dksX0_letsOf_0 9 rfl rfl)
theorem dX0_letsOf_10 : decode cX0_letsOf 10 = .ok (.iload_n 3, 1) := dk_29 (dk_at dksX0_letsOf_0 10 rfl rfl)
theorem dX0_letsOf_11 : decode cX0_letsOf 11 = .ok (.ifCond .ne 7, 3) := dk_154 0 7 (dk_at dksX0_letsOf_0 11 rfl rfl)
theorem dX0_letsOf_14 : decode cX0_letsOf 14 = .ok (.iconst (-1), 1) := dk_2 (dk_at dksX0_letsOf_0 14 rfl rfl)
theorem dX0_letsOf_15 : decode cX0_letsOf 15 = .ok (.goto 41, 3) := dk_167 0 41 (dk_at dksX0_letsOf_0 15 rfl rfl)
theorem dX0_letsOf_18 : decode cX0_letsOf 18 = .ok (.aload_n 0, 1) := dk_42 (dk_at dksX0_letsOf_0 18 rfl rfl)
theorem dX0_letsOf_19 : decode cX0_letsOf 19 = .ok (.getfield 29, 3) := dk_180 0 29 (dk_at dksX0_letsOf_0 19 rfl rfl)
theorem dX0_letsOf_22 : decode cX0_letsOf 22 = .ok (.iload_n 1, 1) := dk_27 (dk_at dksX0_letsOf_0 22 rfl rfl)
theorem dX0_letsOf_23 : decode cX0_letsOf 23 = .ok (.iaload, 1) := dk_46 (dk_at dksX0_letsOf_0 23 rfl rfl)
theorem dX0_letsOf_24 : decode cX0_letsOf 24 = .ok (.aload_n 0, 1) := dk_42 (dk_at dksX0_letsOf_1 0 rfl rfl)
theorem dX0_letsOf_25 : decode cX0_letsOf 25 = .ok (.getfield 25, 3) := dk_180 0 25 (dk_at dksX0_letsOf_1 1 rfl rfl)
theorem dX0_letsOf_28 : decode cX0_letsOf 28 = .ok (.iload_n 1, 1) := dk_27 (dk_at dksX0_letsOf_1 4 rfl rfl)
theorem dX0_letsOf_29 : decode cX0_letsOf 29 = .ok (.invokevirtual 116, 3) := dk_182 0 116 (dk_at dksX0_letsOf_1 5 rfl rfl)
theorem dX0_letsOf_32 : decode cX0_letsOf 32 = .ok (.checkcast 120, 3) := dk_192 0 120 (dk_at dksX0_letsOf_1 8 rfl rfl)
theorem dX0_letsOf_35 : decode cX0_letsOf 35 = .ok (.aload_n 0, 1) := dk_42 (dk_at dksX0_letsOf_1 11 rfl rfl)
theorem dX0_letsOf_36 : decode cX0_letsOf 36 = .ok (.iconst 0, 1) := dk_3 (dk_at dksX0_letsOf_1 12 rfl rfl)
theorem dX0_letsOf_37 : decode cX0_letsOf 37 = .ok (.iload_n 1, 1) := dk_27 (dk_at dksX0_letsOf_1 13 rfl rfl)
theorem dX0_letsOf_38 : decode cX0_letsOf 38 = .ok (.iload_n 2, 1) := dk_28 (dk_at dksX0_letsOf_1 14 rfl rfl)
theorem dX0_letsOf_39 : decode cX0_letsOf 39 = .ok (.invokevirtual 144, 3) := dk_182 0 144 (dk_at dksX0_letsOf_1 15 rfl rfl)
theorem dX0_letsOf_42 : decode cX0_letsOf 42 = .ok (.iload_n 3, 1) := dk_29 (dk_at dksX0_letsOf_1 18 rfl rfl)
theorem dX0_letsOf_43 : decode cX0_letsOf 43 = .ok (.invokevirtual 201, 3) := dk_182 0 201 (dk_at dksX0_letsOf_1 19 rfl rfl)
theorem dX0_letsOf_46 : decode cX0_letsOf 46 = .ok (.iconst 0, 1) := dk_3 (dk_at dksX0_letsOf_1 22 rfl rfl)
theorem dX0_letsOf_47 : decode cX0_letsOf 47 = .ok (.iload_n 3, 1) := dk_29 (dk_at dksX0_letsOf_1 23 rfl rfl)
theorem dX0_letsOf_48 : decode cX0_letsOf 48 = .ok (.iconst 1, 1) := dk_4 (dk_at dksX0_letsOf_2 0 rfl rfl)
theorem dX0_letsOf_49 : decode cX0_letsOf 49 = .ok (.isub, 1) := dk_100 (dk_at dksX0_letsOf_2 1 rfl rfl)
theorem dX0_letsOf_50 : decode cX0_letsOf 50 = .ok (.invokestatic 131, 3) := dk_184 0 131 (dk_at dksX0_letsOf_2 2 rfl rfl)
theorem dX0_letsOf_53 : decode cX0_letsOf 53 = .ok (.invokestatic 204, 3) := dk_184 0 204 (dk_at dksX0_letsOf_2 5 rfl rfl)
theorem dX0_letsOf_56 : decode cX0_letsOf 56 = .ok (.ireturn, 1) := dk_172 (dk_at dksX0_letsOf_2 8 rfl rfl)
abbrev cX0_nth : ByteArray := prog_1_method_19_code
def yX0_nth : MethodName := ⟨RX0, "nth", "(II)I"⟩
def dkwX0_nth_1 : List UInt8 := [154, 0, 5, 29, 172, 132, 2, 255, 132, 3, 1, 167, 255, 227, 2, 172]
abbrev dktX0_nth_1 : List UInt8 := dkwX0_nth_1 ++ []
def dkwX0_nth_0 : List UInt8 := [27, 61, 3, 62, 29, 16, 16, 162, 0, 29, 26, 29, 122, 4, 126, 154, 0, 6, 167, 0, 12, 28]
abbrev dktX0_nth_0 : List UInt8 := dkwX0_nth_0 ++ dktX0_nth_1
theorem dksX0_nth_0 : cX0_nth.data.toList.drop 0 = dktX0_nth_0 := by decide +kernel
theorem dksX0_nth_1 : cX0_nth.data.toList.drop 22 = dktX0_nth_1 := dk_seg dksX0_nth_0 22 rfl rfl
theorem dX0_nth_0 : decode cX0_nth 0 = .ok (.iload_n 1, 1) := dk_27 (dk_at dksX0_nth_0 0 rfl rfl)
theorem dX0_nth_1 : decode cX0_nth 1 = .ok (.istore_n 2, 1) := dk_61 (dk_at dksX0_nth_0 1 rfl rfl)
theorem dX0_nth_2 : decode cX0_nth 2 = .ok (.iconst 0, 1) := dk_3 (dk_at dksX0_nth_0 2 rfl rfl)
theorem dX0_nth_3 : decode cX0_nth 3 = .ok (.istore_n 3, 1) := dk_62 (dk_at dksX0_nth_0 3 rfl rfl)
theorem dX0_nth_4 : decode cX0_nth 4 = .ok (.iload_n 3, 1) := dk_29 (dk_at dksX0_nth_0 4 rfl rfl)
theorem dX0_nth_5 : decode cX0_nth 5 = .ok (.bipush 16, 2) := dk_16 16 (dk_at dksX0_nth_0 5 rfl rfl)
theorem dX0_nth_7 : decode cX0_nth 7 = .ok (.if_icmp .ge 29, 3) := dk_162 0 29 (dk_at dksX0_nth_0 7 rfl rfl)
theorem dX0_nth_10 : decode cX0_nth 10 = .ok (.iload_n 0, 1) := dk_26 (dk_at dksX0_nth_0 10 rfl rfl)
theorem dX0_nth_11 : decode cX0_nth 11 = .ok (.iload_n 3, 1) := dk_29 (dk_at dksX0_nth_0 11 rfl rfl)
theorem dX0_nth_12 : decode cX0_nth 12 = .ok (.ishr, 1) := dk_122 (dk_at dksX0_nth_0 12 rfl rfl)
theorem dX0_nth_13 : decode cX0_nth 13 = .ok (.iconst 1, 1) := dk_4 (dk_at dksX0_nth_0 13 rfl rfl)
theorem dX0_nth_14 : decode cX0_nth 14 = .ok (.iand, 1) := dk_126 (dk_at dksX0_nth_0 14 rfl rfl)
theorem dX0_nth_15 : decode cX0_nth 15 = .ok (.ifCond .ne 6, 3) := dk_154 0 6 (dk_at dksX0_nth_0 15 rfl rfl)
theorem dX0_nth_18 : decode cX0_nth 18 = .ok (.goto 12, 3) := dk_167 0 12 (dk_at dksX0_nth_0 18 rfl rfl)
theorem dX0_nth_21 : decode cX0_nth 21 = .ok (.iload_n 2, 1) := dk_28 (dk_at dksX0_nth_0 21 rfl rfl)
theorem dX0_nth_22 : decode cX0_nth 22 = .ok (.ifCond .ne 5, 3) := dk_154 0 5 (dk_at dksX0_nth_1 0 rfl rfl)
theorem dX0_nth_25 : decode cX0_nth 25 = .ok (.iload_n 3, 1) := dk_29 (dk_at dksX0_nth_1 3 rfl rfl)
theorem dX0_nth_26 : decode cX0_nth 26 = .ok (.ireturn, 1) := dk_172 (dk_at dksX0_nth_1 4 rfl rfl)
theorem dX0_nth_27 : decode cX0_nth 27 = .ok (.iinc 2 (-1), 3) := dk_132 2 255 (dk_at dksX0_nth_1 5 rfl rfl)
theorem dX0_nth_30 : decode cX0_nth 30 = .ok (.iinc 3 1, 3) := dk_132 3 1 (dk_at dksX0_nth_1 8 rfl rfl)
theorem dX0_nth_33 : decode cX0_nth 33 = .ok (.goto (-29), 3) := dk_167 255 227 (dk_at dksX0_nth_1 11 rfl rfl)
theorem dX0_nth_36 : decode cX0_nth 36 = .ok (.iconst (-1), 1) := dk_2 (dk_at dksX0_nth_1 14 rfl rfl)
theorem dX0_nth_37 : decode cX0_nth 37 = .ok (.ireturn, 1) := dk_172 (dk_at dksX0_nth_1 15 rfl rfl)
abbrev cX0_lucksOf : ByteArray := prog_1_method_21_code
def yX0_lucksOf : MethodName := ⟨RX0, "lucksOf", "(II)I"⟩
def dkwX0_lucksOf_1 : List UInt8 := [28, 122, 4, 126, 4, 160, 0, 7, 4, 167, 0, 4, 3, 182, 0, 207, 172]
abbrev dktX0_lucksOf_1 : List UInt8 := dkwX0_lucksOf_1 ++ []
def dkwX0_lucksOf_0 : List UInt8 := [42, 180, 0, 25, 27, 182, 0, 116, 192, 0, 120, 42, 4, 27, 28, 182, 0, 144, 42, 180, 0, 29, 27, 46]
abbrev dktX0_lucksOf_0 : List UInt8 := dkwX0_lucksOf_0 ++ dktX0_lucksOf_1
theorem dksX0_lucksOf_0 : cX0_lucksOf.data.toList.drop 0 = dktX0_lucksOf_0 := by decide +kernel
theorem dksX0_lucksOf_1 : cX0_lucksOf.data.toList.drop 24 = dktX0_lucksOf_1 := dk_seg dksX0_lucksOf_0 24 rfl rfl
theorem dX0_lucksOf_0 : decode cX0_lucksOf 0 = .ok (.aload_n 0, 1) := dk_42 (dk_at dksX0_lucksOf_0 0 rfl rfl)
theorem dX0_lucksOf_1 : decode cX0_lucksOf 1 = .ok (.getfield 25, 3) := dk_180 0 25 (dk_at dksX0_lucksOf_0 1 rfl rfl)
theorem dX0_lucksOf_4 : decode cX0_lucksOf 4 = .ok (.iload_n 1, 1) := dk_27 (dk_at dksX0_lucksOf_0 4 rfl rfl)
theorem dX0_lucksOf_5 : decode cX0_lucksOf 5 = .ok (.invokevirtual 116, 3) := dk_182 0 116 (dk_at dksX0_lucksOf_0 5 rfl rfl)
theorem dX0_lucksOf_8 : decode cX0_lucksOf 8 = .ok (.checkcast 120, 3) := dk_192 0 120 (dk_at dksX0_lucksOf_0 8 rfl rfl)
theorem dX0_lucksOf_11 : decode cX0_lucksOf 11 = .ok (.aload_n 0, 1) := dk_42 (dk_at dksX0_lucksOf_0 11 rfl rfl)
theorem dX0_lucksOf_12 : decode cX0_lucksOf 12 = .ok (.iconst 1, 1) := dk_4 (dk_at dksX0_lucksOf_0 12 rfl rfl)
theorem dX0_lucksOf_13 : decode cX0_lucksOf 13 = .ok (.iload_n 1, 1) := dk_27 (dk_at dksX0_lucksOf_0 13 rfl rfl)
theorem dX0_lucksOf_14 : decode cX0_lucksOf 14 = .ok (.iload_n 2, 1) := dk_28 (dk_at dksX0_lucksOf_0 14 rfl rfl)
theorem dX0_lucksOf_15 : decode cX0_lucksOf 15 = .ok (.invokevirtual 144, 3) := dk_182 0 144 (dk_at dksX0_lucksOf_0 15 rfl rfl)
theorem dX0_lucksOf_18 : decode cX0_lucksOf 18 = .ok (.aload_n 0, 1) := dk_42 (dk_at dksX0_lucksOf_0 18 rfl rfl)
theorem dX0_lucksOf_19 : decode cX0_lucksOf 19 = .ok (.getfield 29, 3) := dk_180 0 29 (dk_at dksX0_lucksOf_0 19 rfl rfl)
theorem dX0_lucksOf_22 : decode cX0_lucksOf 22 = .ok (.iload_n 1, 1) := dk_27 (dk_at dksX0_lucksOf_0 22 rfl rfl)
theorem dX0_lucksOf_23 : decode cX0_lucksOf 23 = .ok (.iaload, 1) := dk_46 (dk_at dksX0_lucksOf_0 23 rfl rfl)
theorem dX0_lucksOf_24 : decode cX0_lucksOf 24 = .ok (.iload_n 2, 1) := dk_28 (dk_at dksX0_lucksOf_1 0 rfl rfl)
theorem dX0_lucksOf_25 : decode cX0_lucksOf 25 = .ok (.ishr, 1) := dk_122 (dk_at dksX0_lucksOf_1 1 rfl rfl)
theorem dX0_lucksOf_26 : decode cX0_lucksOf 26 = .ok (.iconst 1, 1) := dk_4 (dk_at dksX0_lucksOf_1 2 rfl rfl)
theorem dX0_lucksOf_27 : decode cX0_lucksOf 27 = .ok (.iand, 1) := dk_126 (dk_at dksX0_lucksOf_1 3 rfl rfl)
theorem dX0_lucksOf_28 : decode cX0_lucksOf 28 = .ok (.iconst 1, 1) := dk_4 (dk_at dksX0_lucksOf_1 4 rfl rfl)
theorem dX0_lucksOf_29 : decode cX0_lucksOf 29 = .ok (.if_icmp .ne 7, 3) := dk_160 0 7 (dk_at dksX0_lucksOf_1 5 rfl rfl)
theorem dX0_lucksOf_32 : decode cX0_lucksOf 32 = .ok (.iconst 1, 1) := dk_4 (dk_at dksX0_lucksOf_1 8 rfl rfl)
theorem dX0_lucksOf_33 : decode cX0_lucksOf 33 = .ok (.goto 4, 3) := dk_167 0 4 (dk_at dksX0_lucksOf_1 9 rfl rfl)
theorem dX0_lucksOf_36 : decode cX0_lucksOf 36 = .ok (.iconst 0, 1) := dk_3 (dk_at dksX0_lucksOf_1 12 rfl rfl)
theorem dX0_lucksOf_37 : decode cX0_lucksOf 37 = .ok (.invokevirtual 207, 3) := dk_182 0 207 (dk_at dksX0_lucksOf_1 13 rfl rfl)
theorem dX0_lucksOf_40 : decode cX0_lucksOf 40 = .ok (.ireturn, 1) := dk_172 (dk_at dksX0_lucksOf_1 16 rfl rfl)
abbrev cX0_land : ByteArray := prog_1_method_23_code
def yX0_land : MethodName := ⟨RX0, "land", "(II)I"⟩
def dkwX0_land_1 : List UInt8 := [167, 0, 9, 42, 27, 28, 182, 0, 211, 172]
abbrev dktX0_land_1 : List UInt8 := dkwX0_land_1 ++ []
def dkwX0_land_0 : List UInt8 := [42, 27, 182, 0, 137, 154, 0, 8, 16, 251, 167, 0, 21, 28, 184, 0, 141, 154, 0, 8, 16, 250]
abbrev dktX0_land_0 : List UInt8 := dkwX0_land_0 ++ dktX0_land_1
theorem dksX0_land_0 : cX0_land.data.toList.drop 0 = dktX0_land_0 := by decide +kernel
theorem dksX0_land_1 : cX0_land.data.toList.drop 22 = dktX0_land_1 := dk_seg dksX0_land_0 22 rfl rfl
theorem dX0_land_0 : decode cX0_land 0 = .ok (.aload_n 0, 1) := dk_42 (dk_at dksX0_land_0 0 rfl rfl)
theorem dX0_land_1 : decode cX0_land 1 = .ok (.iload_n 1, 1) := dk_27 (dk_at dksX0_land_0 1 rfl rfl)
theorem dX0_land_2 : decode cX0_land 2 = .ok (.invokevirtual 137, 3) := dk_182 0 137 (dk_at dksX0_land_0 2 rfl rfl)
theorem dX0_land_5 : decode cX0_land 5 = .ok (.ifCond .ne 8, 3) := dk_154 0 8 (dk_at dksX0_land_0 5 rfl rfl)
theorem dX0_land_8 : decode cX0_land 8 = .ok (.bipush (-5), 2) := dk_16 251 (dk_at dksX0_land_0 8 rfl rfl)
theorem dX0_land_10 : decode cX0_land 10 = .ok (.goto 21, 3) := dk_167 0 21 (dk_at dksX0_land_0 10 rfl rfl)
theorem dX0_land_13 : decode cX0_land 13 = .ok (.iload_n 2, 1) := dk_28 (dk_at dksX0_land_0 13 rfl rfl)
theorem dX0_land_14 : decode cX0_land 14 = .ok (.invokestatic 141, 3) := dk_184 0 141 (dk_at dksX0_land_0 14 rfl rfl)
theorem dX0_land_17 : decode cX0_land 17 = .ok (.ifCond .ne 8, 3) := dk_154 0 8 (dk_at dksX0_land_0 17 rfl rfl)
theorem dX0_land_20 : decode cX0_land 20 = .ok (.bipush (-6), 2) := dk_16 250 (dk_at dksX0_land_0 20 rfl rfl)
theorem dX0_land_22 : decode cX0_land 22 = .ok (.goto 9, 3) := dk_167 0 9 (dk_at dksX0_land_1 0 rfl rfl)
theorem dX0_land_25 : decode cX0_land 25 = .ok (.aload_n 0, 1) := dk_42 (dk_at dksX0_land_1 3 rfl rfl)
theorem dX0_land_26 : decode cX0_land 26 = .ok (.iload_n 1, 1) := dk_27 (dk_at dksX0_land_1 4 rfl rfl)
theorem dX0_land_27 : decode cX0_land 27 = .ok (.iload_n 2, 1) := dk_28 (dk_at dksX0_land_1 5 rfl rfl)
theorem dX0_land_28 : decode cX0_land 28 = .ok (.invokevirtual 211, 3) := dk_182 0 211 (dk_at dksX0_land_1 6 rfl rfl)
theorem dX0_land_31 : decode cX0_land 31 = .ok (.ireturn, 1) := dk_172 (dk_at dksX0_land_1 9 rfl rfl)
abbrev cX0_landed : ByteArray := prog_1_method_22_code
def yX0_landed : MethodName := ⟨RX0, "landed", "(II)I"⟩
def dkwX0_landed_3 : List UInt8 := [3, 16, 99, 184, 0, 131, 79, 29, 172]
abbrev dktX0_landed_3 : List UInt8 := dkwX0_landed_3 ++ []
def dkwX0_landed_2 : List UInt8 := [180, 0, 90, 4, 29, 120, 128, 181, 0, 90, 42, 180, 0, 35, 27, 42, 180, 0, 35, 27, 46, 21, 4, 96]
abbrev dktX0_landed_2 : List UInt8 := dkwX0_landed_2 ++ dktX0_landed_3
def dkwX0_landed_1 : List UInt8 := [120, 128, 79, 29, 2, 159, 0, 29, 42, 180, 0, 29, 27, 92, 46, 4, 29, 120, 2, 130, 126, 79, 42, 89]
abbrev dktX0_landed_1 : List UInt8 := dkwX0_landed_1 ++ dktX0_landed_2
def dkwX0_landed_0 : List UInt8 := [42, 27, 28, 182, 0, 195, 62, 42, 27, 28, 182, 0, 198, 54, 4, 42, 180, 0, 32, 27, 92, 46, 4, 28]
abbrev dktX0_landed_0 : List UInt8 := dkwX0_landed_0 ++ dktX0_landed_1
theorem dksX0_landed_0 : cX0_landed.data.toList.drop 0 = dktX0_landed_0 := by decide +kernel
theorem dksX0_landed_1 : cX0_landed.data.toList.drop 24 = dktX0_landed_1 := dk_seg dksX0_landed_0 24 rfl rfl
theorem dksX0_landed_2 : cX0_landed.data.toList.drop 48 = dktX0_landed_2 := dk_seg dksX0_landed_1 24 rfl rfl
theorem dksX0_landed_3 : cX0_landed.data.toList.drop 72 = dktX0_landed_3 := dk_seg dksX0_landed_2 24 rfl rfl
theorem dX0_landed_0 : decode cX0_landed 0 = .ok (.aload_n 0, 1) := dk_42 (dk_at dksX0_landed_0 0 rfl rfl)
theorem dX0_landed_1 : decode cX0_landed 1 = .ok (.iload_n 1, 1) := dk_27 (dk_at dksX0_landed_0 1 rfl rfl)
theorem dX0_landed_2 : decode cX0_landed 2 = .ok (.iload_n 2, 1) := dk_28 (dk_at dksX0_landed_0 2 rfl rfl)
theorem dX0_landed_3 : decode cX0_landed 3 = .ok (.invokevirtual 195, 3) := dk_182 0 195 (dk_at dksX0_landed_0 3 rfl rfl)
theorem dX0_landed_6 : decode cX0_landed 6 = .ok (.istore_n 3, 1) := dk_62 (dk_at dksX0_landed_0 6 rfl rfl)
theorem dX0_landed_7 : decode cX0_landed 7 = .ok (.aload_n 0, 1) := dk_42 (dk_at dksX0_landed_0 7 rfl rfl)
theorem dX0_landed_8 : decode cX0_landed 8 = .ok (.iload_n 1, 1) := dk_27 (dk_at dksX0_landed_0 8 rfl rfl)
theorem dX0_landed_9 : decode cX0_landed 9 = .ok (.iload_n 2, 1) := dk_28 (dk_at dksX0_landed_0 9 rfl rfl)
theorem dX0_landed_10 : decode cX0_landed 10 = .ok (.invokevirtual 198, 3) := dk_182 0 198 (dk_at dksX0_landed_0 10 rfl rfl)
theorem dX0_landed_13 : decode cX0_landed 13 = .ok (.istore 4, 2) := dk_54 4 (dk_at dksX0_landed_0 13 rfl rfl)
theorem dX0_landed_15 : decode cX0_landed 15 = .ok (.aload_n 0, 1) := dk_42 (dk_at dksX0_landed_0 15 rfl rfl)
theorem dX0_landed_16 : decode cX0_landed 16 = .ok (.getfield 32, 3) := dk_180 0 32 (dk_at dksX0_landed_0 16 rfl rfl)
theorem dX0_landed_19 : decode cX0_landed 19 = .ok (.iload_n 1, 1) := dk_27 (dk_at dksX0_landed_0 19 rfl rfl)
theorem dX0_landed_20 : decode cX0_landed 20 = .ok (.dup2, 1) := dk_92 (dk_at dksX0_landed_0 20 rfl rfl)
theorem dX0_landed_21 : decode cX0_landed 21 = .ok (.iaload, 1) := dk_46 (dk_at dksX0_landed_0 21 rfl rfl)
theorem dX0_landed_22 : decode cX0_landed 22 = .ok (.iconst 1, 1) := dk_4 (dk_at dksX0_landed_0 22 rfl rfl)
theorem dX0_landed_23 : decode cX0_landed 23 = .ok (.iload_n 2, 1) := dk_28 (dk_at dksX0_landed_0 23 rfl rfl)
theorem dX0_landed_24 : decode cX0_landed 24 = .ok (.ishl, 1) := dk_120 (dk_at dksX0_landed_1 0 rfl rfl)
theorem dX0_landed_25 : decode cX0_landed 25 = .ok (.ior, 1) := dk_128 (dk_at dksX0_landed_1 1 rfl rfl)
theorem dX0_landed_26 : decode cX0_landed 26 = .ok (.iastore, 1) := dk_79 (dk_at dksX0_landed_1 2 rfl rfl)
theorem dX0_landed_27 : decode cX0_landed 27 = .ok (.iload_n 3, 1) := dk_29 (dk_at dksX0_landed_1 3 rfl rfl)
theorem dX0_landed_28 : decode cX0_landed 28 = .ok (.iconst (-1), 1) := dk_2 (dk_at dksX0_landed_1 4 rfl rfl)
theorem dX0_landed_29 : decode cX0_landed 29 = .ok (.if_icmp .eq 29, 3) := dk_159 0 29 (dk_at dksX0_landed_1 5 rfl rfl)
theorem dX0_landed_32 : decode cX0_landed 32 = .ok (.aload_n 0, 1) := dk_42 (dk_at dksX0_landed_1 8 rfl rfl)
theorem dX0_landed_33 : decode cX0_landed 33 = .ok (.getfield 29, 3) := dk_180 0 29 (dk_at dksX0_landed_1 9 rfl rfl)
theorem dX0_landed_36 : decode cX0_landed 36 = .ok (.iload_n 1, 1) := dk_27 (dk_at dksX0_landed_1 12 rfl rfl)
theorem dX0_landed_37 : decode cX0_landed 37 = .ok (.dup2, 1) := dk_92 (dk_at dksX0_landed_1 13 rfl rfl)
theorem dX0_landed_38 : decode cX0_landed 38 = .ok (.iaload, 1) := dk_46 (dk_at dksX0_landed_1 14 rfl rfl)
theorem dX0_landed_39 : decode cX0_landed 39 = .ok (.iconst 1, 1) := dk_4 (dk_at dksX0_landed_1 15 rfl rfl)
theorem dX0_landed_40 : decode cX0_landed 40 = .ok (.iload_n 3, 1) := dk_29 (dk_at dksX0_landed_1 16 rfl rfl)
theorem dX0_landed_41 : decode cX0_landed 41 = .ok (.ishl, 1) := dk_120 (dk_at dksX0_landed_1 17 rfl rfl)
theorem dX0_landed_42 : decode cX0_landed 42 = .ok (.iconst (-1), 1) := dk_2 (dk_at dksX0_landed_1 18 rfl rfl)
theorem dX0_landed_43 : decode cX0_landed 43 = .ok (.ixor, 1) := dk_130 (dk_at dksX0_landed_1 19 rfl rfl)
theorem dX0_landed_44 : decode cX0_landed 44 = .ok (.iand, 1) := dk_126 (dk_at dksX0_landed_1 20 rfl rfl)
theorem dX0_landed_45 : decode cX0_landed 45 = .ok (.iastore, 1) := dk_79 (dk_at dksX0_landed_1 21 rfl rfl)
theorem dX0_landed_46 : decode cX0_landed 46 = .ok (.aload_n 0, 1) := dk_42 (dk_at dksX0_landed_1 22 rfl rfl)
theorem dX0_landed_47 : decode cX0_landed 47 = .ok (.dup, 1) := dk_89 (dk_at dksX0_landed_1 23 rfl rfl)
theorem dX0_landed_48 : decode cX0_landed 48 = .ok (.getfield 90, 3) := dk_180 0 90 (dk_at dksX0_landed_2 0 rfl rfl)
theorem dX0_landed_51 : decode cX0_landed 51 = .ok (.iconst 1, 1) := dk_4 (dk_at dksX0_landed_2 3 rfl rfl)
theorem dX0_landed_52 : decode cX0_landed 52 = .ok (.iload_n 3, 1) := dk_29 (dk_at dksX0_landed_2 4 rfl rfl)
theorem dX0_landed_53 : decode cX0_landed 53 = .ok (.ishl, 1) := dk_120 (dk_at dksX0_landed_2 5 rfl rfl)
theorem dX0_landed_54 : decode cX0_landed 54 = .ok (.ior, 1) := dk_128 (dk_at dksX0_landed_2 6 rfl rfl)
theorem dX0_landed_55 : decode cX0_landed 55 = .ok (.putfield 90, 3) := dk_181 0 90 (dk_at dksX0_landed_2 7 rfl rfl)
theorem dX0_landed_58 : decode cX0_landed 58 = .ok (.aload_n 0, 1) := dk_42 (dk_at dksX0_landed_2 10 rfl rfl)
theorem dX0_landed_59 : decode cX0_landed 59 = .ok (.getfield 35, 3) := dk_180 0 35 (dk_at dksX0_landed_2 11 rfl rfl)
theorem dX0_landed_62 : decode cX0_landed 62 = .ok (.iload_n 1, 1) := dk_27 (dk_at dksX0_landed_2 14 rfl rfl)
theorem dX0_landed_63 : decode cX0_landed 63 = .ok (.aload_n 0, 1) := dk_42 (dk_at dksX0_landed_2 15 rfl rfl)
theorem dX0_landed_64 : decode cX0_landed 64 = .ok (.getfield 35, 3) := dk_180 0 35 (dk_at dksX0_landed_2 16 rfl rfl)
theorem dX0_landed_67 : decode cX0_landed 67 = .ok (.iload_n 1, 1) := dk_27 (dk_at dksX0_landed_2 19 rfl rfl)
theorem dX0_landed_68 : decode cX0_landed 68 = .ok (.iaload, 1) := dk_46 (dk_at dksX0_landed_2 20 rfl rfl)
theorem dX0_landed_69 : decode cX0_landed 69 = .ok (.iload 4, 2) := dk_21 4 (dk_at dksX0_landed_2 21 rfl rfl)
theorem dX0_landed_71 : decode cX0_landed 71 = .ok (.iadd, 1) := dk_96 (dk_at dksX0_landed_2 23 rfl rfl)
theorem dX0_landed_72 : decode cX0_landed 72 = .ok (.iconst 0, 1) := dk_3 (dk_at dksX0_landed_3 0 rfl rfl)
theorem dX0_landed_73 : decode cX0_landed 73 = .ok (.bipush 99, 2) := dk_16 99 (dk_at dksX0_landed_3 1 rfl rfl)
theorem dX0_landed_75 : decode cX0_landed 75 = .ok (.invokestatic 131, 3) := dk_184 0 131 (dk_at dksX0_landed_3 3 rfl rfl)
theorem dX0_landed_78 : decode cX0_landed 78 = .ok (.iastore, 1) := dk_79 (dk_at dksX0_landed_3 6 rfl rfl)
theorem dX0_landed_79 : decode cX0_landed 79 = .ok (.iload_n 3, 1) := dk_29 (dk_at dksX0_landed_3 7 rfl rfl)
theorem dX0_landed_80 : decode cX0_landed 80 = .ok (.ireturn, 1) := dk_172 (dk_at dksX0_landed_3 8 rfl rfl)
abbrev cX0_teach : ByteArray := prog_1_method_25_code
def yX0_teach : MethodName := ⟨RX0, "teach", "(II)I"⟩
def dkwX0_teach_1 : List UInt8 := [92, 46, 29, 128, 79, 29, 172]
abbrev dktX0_teach_1 : List UInt8 := dkwX0_teach_1 ++ []
def dkwX0_teach_0 : List UInt8 := [42, 27, 28, 182, 0, 217, 154, 0, 6, 16, 251, 172, 42, 27, 28, 182, 0, 221, 62, 42, 180, 0, 29, 28]
abbrev dktX0_teach_0 : List UInt8 := dkwX0_teach_0 ++ dktX0_teach_1
theorem dksX0_teach_0 : cX0_teach.data.toList.drop 0 = dktX0_teach_0 := by decide +kernel
theorem dksX0_teach_1 : cX0_teach.data.toList.drop 24 = dktX0_teach_1 := dk_seg dksX0_teach_0 24 rfl rfl
theorem dX0_teach_0 : decode cX0_teach 0 = .ok (.aload_n 0, 1) := dk_42 (dk_at dksX0_teach_0 0 rfl rfl)
theorem dX0_teach_1 : decode cX0_teach 1 = .ok (.iload_n 1, 1) := dk_27 (dk_at dksX0_teach_0 1 rfl rfl)
theorem dX0_teach_2 : decode cX0_teach 2 = .ok (.iload_n 2, 1) := dk_28 (dk_at dksX0_teach_0 2 rfl rfl)
theorem dX0_teach_3 : decode cX0_teach 3 = .ok (.invokevirtual 217, 3) := dk_182 0 217 (dk_at dksX0_teach_0 3 rfl rfl)
theorem dX0_teach_6 : decode cX0_teach 6 = .ok (.ifCond .ne 6, 3) := dk_154 0 6 (dk_at dksX0_teach_0 6 rfl rfl)
theorem dX0_teach_9 : decode cX0_teach 9 = .ok (.bipush (-5), 2) := dk_16 251 (dk_at dksX0_teach_0 9 rfl rfl)
theorem dX0_teach_11 : decode cX0_teach 11 = .ok (.ireturn, 1) := dk_172 (dk_at dksX0_teach_0 11 rfl rfl)
theorem dX0_teach_12 : decode cX0_teach 12 = .ok (.aload_n 0, 1) := dk_42 (dk_at dksX0_teach_0 12 rfl rfl)
theorem dX0_teach_13 : decode cX0_teach 13 = .ok (.iload_n 1, 1) := dk_27 (dk_at dksX0_teach_0 13 rfl rfl)
theorem dX0_teach_14 : decode cX0_teach 14 = .ok (.iload_n 2, 1) := dk_28 (dk_at dksX0_teach_0 14 rfl rfl)
theorem dX0_teach_15 : decode cX0_teach 15 = .ok (.invokevirtual 221, 3) := dk_182 0 221 (dk_at dksX0_teach_0 15 rfl rfl)
theorem dX0_teach_18 : decode cX0_teach 18 = .ok (.istore_n 3, 1) := dk_62 (dk_at dksX0_teach_0 18 rfl rfl)
theorem dX0_teach_19 : decode cX0_teach 19 = .ok (.aload_n 0, 1) := dk_42 (dk_at dksX0_teach_0 19 rfl rfl)
theorem dX0_teach_20 : decode cX0_teach 20 = .ok (.getfield 29, 3) := dk_180 0 29 (dk_at dksX0_teach_0 20 rfl rfl)
theorem dX0_teach_23 : decode cX0_teach 23 = .ok (.iload_n 2, 1) := dk_28 (dk_at dksX0_teach_0 23 rfl rfl)
theorem dX0_teach_24 : decode cX0_teach 24 = .ok (.dup2, 1) := dk_92 (dk_at dksX0_teach_1 0 rfl rfl)
theorem dX0_teach_25 : decode cX0_teach 25 = .ok (.iaload, 1) := dk_46 (dk_at dksX0_teach_1 1 rfl rfl)
theorem dX0_teach_26 : decode cX0_teach 26 = .ok (.iload_n 3, 1) := dk_29 (dk_at dksX0_teach_1 2 rfl rfl)
theorem dX0_teach_27 : decode cX0_teach 27 = .ok (.ior, 1) := dk_128 (dk_at dksX0_teach_1 3 rfl rfl)
theorem dX0_teach_28 : decode cX0_teach 28 = .ok (.iastore, 1) := dk_79 (dk_at dksX0_teach_1 4 rfl rfl)
theorem dX0_teach_29 : decode cX0_teach 29 = .ok (.iload_n 3, 1) := dk_29 (dk_at dksX0_teach_1 5 rfl rfl)
theorem dX0_teach_30 : decode cX0_teach 30 = .ok (.ireturn, 1) := dk_172 (dk_at dksX0_teach_1 6 rfl rfl)
abbrev cX0_areTwo : ByteArray := prog_1_method_12_code
def yX0_areTwo : MethodName := ⟨RX0, "areTwo", "(II)Z"⟩
def dkwX0_areTwo_1 : List UInt8 := [167, 0, 4, 3, 172]
abbrev dktX0_areTwo_1 : List UInt8 := dkwX0_areTwo_1 ++ []
def dkwX0_areTwo_0 : List UInt8 := [42, 27, 182, 0, 137, 153, 0, 20, 42, 28, 182, 0, 137, 153, 0, 12, 27, 28, 159, 0, 7, 4]
abbrev dktX0_areTwo_0 : List UInt8 := dkwX0_areTwo_0 ++ dktX0_areTwo_1
theorem dksX0_areTwo_0 : cX0_areTwo.data.toList.drop 0 = dktX0_areTwo_0 := by decide +kernel
theorem dksX0_areTwo_1 : cX0_areTwo.data.toList.drop 22 = dktX0_areTwo_1 := dk_seg dksX0_areTwo_0 22 rfl rfl
theorem dX0_areTwo_0 : decode cX0_areTwo 0 = .ok (.aload_n 0, 1) := dk_42 (dk_at dksX0_areTwo_0 0 rfl rfl)
theorem dX0_areTwo_1 : decode cX0_areTwo 1 = .ok (.iload_n 1, 1) := dk_27 (dk_at dksX0_areTwo_0 1 rfl rfl)
theorem dX0_areTwo_2 : decode cX0_areTwo 2 = .ok (.invokevirtual 137, 3) := dk_182 0 137 (dk_at dksX0_areTwo_0 2 rfl rfl)
theorem dX0_areTwo_5 : decode cX0_areTwo 5 = .ok (.ifCond .eq 20, 3) := dk_153 0 20 (dk_at dksX0_areTwo_0 5 rfl rfl)
theorem dX0_areTwo_8 : decode cX0_areTwo 8 = .ok (.aload_n 0, 1) := dk_42 (dk_at dksX0_areTwo_0 8 rfl rfl)
theorem dX0_areTwo_9 : decode cX0_areTwo 9 = .ok (.iload_n 2, 1) := dk_28 (dk_at dksX0_areTwo_0 9 rfl rfl)
theorem dX0_areTwo_10 : decode cX0_areTwo 10 = .ok (.invokevirtual 137, 3) := dk_182 0 137 (dk_at dksX0_areTwo_0 10 rfl rfl)
theorem dX0_areTwo_13 : decode cX0_areTwo 13 = .ok (.ifCond .eq 12, 3) := dk_153 0 12 (dk_at dksX0_areTwo_0 13 rfl rfl)
theorem dX0_areTwo_16 : decode cX0_areTwo 16 = .ok (.iload_n 1, 1) := dk_27 (dk_at dksX0_areTwo_0 16 rfl rfl)
theorem dX0_areTwo_17 : decode cX0_areTwo 17 = .ok (.iload_n 2, 1) := dk_28 (dk_at dksX0_areTwo_0 17 rfl rfl)
theorem dX0_areTwo_18 : decode cX0_areTwo 18 = .ok (.if_icmp .eq 7, 3) := dk_159 0 7 (dk_at dksX0_areTwo_0 18 rfl rfl)
theorem dX0_areTwo_21 : decode cX0_areTwo 21 = .ok (.iconst 1, 1) := dk_4 (dk_at dksX0_areTwo_0 21 rfl rfl)
theorem dX0_areTwo_22 : decode cX0_areTwo 22 = .ok (.goto 4, 3) := dk_167 0 4 (dk_at dksX0_areTwo_1 0 rfl rfl)
theorem dX0_areTwo_25 : decode cX0_areTwo 25 = .ok (.iconst 0, 1) := dk_3 (dk_at dksX0_areTwo_1 3 rfl rfl)
theorem dX0_areTwo_26 : decode cX0_areTwo 26 = .ok (.ireturn, 1) := dk_172 (dk_at dksX0_areTwo_1 4 rfl rfl)
abbrev cX0_lesson : ByteArray := prog_1_method_24_code
def yX0_lesson : MethodName := ⟨RX0, "lesson", "(II)I"⟩
def dkwX0_lesson_2 : List UInt8 := [126, 62, 132, 5, 255, 167, 255, 229, 21, 4, 172]
abbrev dktX0_lesson_2 : List UInt8 := dkwX0_lesson_2 ++ []
def dkwX0_lesson_1 : List UInt8 := [54, 5, 21, 5, 158, 0, 28, 29, 153, 0, 24, 21, 4, 29, 184, 0, 214, 128, 54, 4, 29, 29, 4, 100]
abbrev dktX0_lesson_1 : List UInt8 := dkwX0_lesson_1 ++ dktX0_lesson_2
def dkwX0_lesson_0 : List UInt8 := [42, 180, 0, 29, 27, 46, 42, 180, 0, 29, 28, 46, 2, 130, 126, 62, 3, 54, 4, 42, 28, 182, 0, 189]
abbrev dktX0_lesson_0 : List UInt8 := dkwX0_lesson_0 ++ dktX0_lesson_1
theorem dksX0_lesson_0 : cX0_lesson.data.toList.drop 0 = dktX0_lesson_0 := by decide +kernel
theorem dksX0_lesson_1 : cX0_lesson.data.toList.drop 24 = dktX0_lesson_1 := dk_seg dksX0_lesson_0 24 rfl rfl
theorem dksX0_lesson_2 : cX0_lesson.data.toList.drop 48 = dktX0_lesson_2 := dk_seg dksX0_lesson_1 24 rfl rfl
theorem dX0_lesson_0 : decode cX0_lesson 0 = .ok (.aload_n 0, 1) := dk_42 (dk_at dksX0_lesson_0 0 rfl rfl)
theorem dX0_lesson_1 : decode cX0_lesson 1 = .ok (.getfield 29, 3) := dk_180 0 29 (dk_at dksX0_lesson_0 1 rfl rfl)
theorem dX0_lesson_4 : decode cX0_lesson 4 = .ok (.iload_n 1, 1) := dk_27 (dk_at dksX0_lesson_0 4 rfl rfl)
theorem dX0_lesson_5 : decode cX0_lesson 5 = .ok (.iaload, 1) := dk_46 (dk_at dksX0_lesson_0 5 rfl rfl)
theorem dX0_lesson_6 : decode cX0_lesson 6 = .ok (.aload_n 0, 1) := dk_42 (dk_at dksX0_lesson_0 6 rfl rfl)
theorem dX0_lesson_7 : decode cX0_lesson 7 = .ok (.getfield 29, 3) := dk_180 0 29 (dk_at dksX0_lesson_0 7 rfl rfl)
theorem dX0_lesson_10 : decode cX0_lesson 10 = .ok (.iload_n 2, 1) := dk_28 (dk_at dksX0_lesson_0 10 rfl rfl)
theorem dX0_lesson_11 : decode cX0_lesson 11 = .ok (.iaload, 1) := dk_46 (dk_at dksX0_lesson_0 11 rfl rfl)
theorem dX0_lesson_12 : decode cX0_lesson 12 = .ok (.iconst (-1), 1) := dk_2 (dk_at dksX0_lesson_0 12 rfl rfl)
theorem dX0_lesson_13 : decode cX0_lesson 13 = .ok (.ixor, 1) := dk_130 (dk_at dksX0_lesson_0 13 rfl rfl)
theorem dX0_lesson_14 : decode cX0_lesson 14 = .ok (.iand, 1) := dk_126 (dk_at dksX0_lesson_0 14 rfl rfl)
theorem dX0_lesson_15 : decode cX0_lesson 15 = .ok (.istore_n 3, 1) := dk_62 (dk_at dksX0_lesson_0 15 rfl rfl)
theorem dX0_lesson_16 : decode cX0_lesson 16 = .ok (.iconst 0, 1) := dk_3 (dk_at dksX0_lesson_0 16 rfl rfl)
theorem dX0_lesson_17 : decode cX0_lesson 17 = .ok (.istore 4, 2) := dk_54 4 (dk_at dksX0_lesson_0 17 rfl rfl)
theorem dX0_lesson_19 : decode cX0_lesson 19 = .ok (.aload_n 0, 1) := dk_42 (dk_at dksX0_lesson_0 19 rfl rfl)
theorem dX0_lesson_20 : decode cX0_lesson 20 = .ok (.iload_n 2, 1) := dk_28 (dk_at dksX0_lesson_0 20 rfl rfl)
theorem dX0_lesson_21 : decode cX0_lesson 21 = .ok (.invokevirtual 189, 3) := dk_182 0 189 (dk_at dksX0_lesson_0 21 rfl rfl)
theorem dX0_lesson_24 : decode cX0_lesson 24 = .ok (.istore 5, 2) := dk_54 5 (dk_at dksX0_lesson_1 0 rfl rfl)
theorem dX0_lesson_26 : decode cX0_lesson 26 = .ok (.iload 5, 2) := dk_21 5 (dk_at dksX0_lesson_1 2 rfl rfl)
theorem dX0_lesson_28 : decode cX0_lesson 28 = .ok (.ifCond .le 28, 3) := dk_158 0 28 (dk_at dksX0_lesson_1 4 rfl rfl)
theorem dX0_lesson_31 : decode cX0_lesson 31 = .ok (.iload_n 3, 1) := dk_29 (dk_at dksX0_lesson_1 7 rfl rfl)
theorem dX0_lesson_32 : decode cX0_lesson 32 = .ok (.ifCond .eq 24, 3) := dk_153 0 24 (dk_at dksX0_lesson_1 8 rfl rfl)
theorem dX0_lesson_35 : decode cX0_lesson 35 = .ok (.iload 4, 2) := dk_21 4 (dk_at dksX0_lesson_1 11 rfl rfl)
theorem dX0_lesson_37 : decode cX0_lesson 37 = .ok (.iload_n 3, 1) := dk_29 (dk_at dksX0_lesson_1 13 rfl rfl)
theorem dX0_lesson_38 : decode cX0_lesson 38 = .ok (.invokestatic 214, 3) := dk_184 0 214 (dk_at dksX0_lesson_1 14 rfl rfl)
theorem dX0_lesson_41 : decode cX0_lesson 41 = .ok (.ior, 1) := dk_128 (dk_at dksX0_lesson_1 17 rfl rfl)
theorem dX0_lesson_42 : decode cX0_lesson 42 = .ok (.istore 4, 2) := dk_54 4 (dk_at dksX0_lesson_1 18 rfl rfl)
theorem dX0_lesson_44 : decode cX0_lesson 44 = .ok (.iload_n 3, 1) := dk_29 (dk_at dksX0_lesson_1 20 rfl rfl)
theorem dX0_lesson_45 : decode cX0_lesson 45 = .ok (.iload_n 3, 1) := dk_29 (dk_at dksX0_lesson_1 21 rfl rfl)
theorem dX0_lesson_46 : decode cX0_lesson 46 = .ok (.iconst 1, 1) := dk_4 (dk_at dksX0_lesson_1 22 rfl rfl)
theorem dX0_lesson_47 : decode cX0_lesson 47 = .ok (.isub, 1) := dk_100 (dk_at dksX0_lesson_1 23 rfl rfl)
theorem dX0_lesson_48 : decode cX0_lesson 48 = .ok (.iand, 1) := dk_126 (dk_at dksX0_lesson_2 0 rfl rfl)
theorem dX0_lesson_49 : decode cX0_lesson 49 = .ok (.istore_n 3, 1) := dk_62 (dk_at dksX0_lesson_2 1 rfl rfl)
theorem dX0_lesson_50 : decode cX0_lesson 50 = .ok (.iinc 5 (-1), 3) := dk_132 5 255 (dk_at dksX0_lesson_2 2 rfl rfl)
theorem dX0_lesson_53 : decode cX0_lesson 53 = .ok (.goto (-27), 3) := dk_167 255 229 (dk_at dksX0_lesson_2 5 rfl rfl)
theorem dX0_lesson_56 : decode cX0_lesson 56 = .ok (.iload 4, 2) := dk_21 4 (dk_at dksX0_lesson_2 8 rfl rfl)
theorem dX0_lesson_58 : decode cX0_lesson 58 = .ok (.ireturn, 1) := dk_172 (dk_at dksX0_lesson_2 10 rfl rfl)
abbrev cX0_tide : ByteArray := prog_1_method_27_code
def yX0_tide : MethodName := ⟨RX0, "tide", "()I"⟩
def dkwX0_tide_0 : List UInt8 := [42, 180, 0, 99, 17, 3, 231, 160, 0, 8, 16, 253, 167, 0, 7, 42, 182, 0, 231, 172]
abbrev dktX0_tide_0 : List UInt8 := dkwX0_tide_0 ++ []
theorem dksX0_tide_0 : cX0_tide.data.toList.drop 0 = dktX0_tide_0 := by decide +kernel
theorem dX0_tide_0 : decode cX0_tide 0 = .ok (.aload_n 0, 1) := dk_42 (dk_at dksX0_tide_0 0 rfl rfl)
theorem dX0_tide_1 : decode cX0_tide 1 = .ok (.getfield 99, 3) := dk_180 0 99 (dk_at dksX0_tide_0 1 rfl rfl)
theorem dX0_tide_4 : decode cX0_tide 4 = .ok (.sipush 999, 3) := dk_17 3 231 (dk_at dksX0_tide_0 4 rfl rfl)
theorem dX0_tide_7 : decode cX0_tide 7 = .ok (.if_icmp .ne 8, 3) := dk_160 0 8 (dk_at dksX0_tide_0 7 rfl rfl)
theorem dX0_tide_10 : decode cX0_tide 10 = .ok (.bipush (-3), 2) := dk_16 253 (dk_at dksX0_tide_0 10 rfl rfl)
theorem dX0_tide_12 : decode cX0_tide 12 = .ok (.goto 7, 3) := dk_167 0 7 (dk_at dksX0_tide_0 12 rfl rfl)
theorem dX0_tide_15 : decode cX0_tide 15 = .ok (.aload_n 0, 1) := dk_42 (dk_at dksX0_tide_0 15 rfl rfl)
theorem dX0_tide_16 : decode cX0_tide 16 = .ok (.invokevirtual 231, 3) := dk_182 0 231 (dk_at dksX0_tide_0 16 rfl rfl)
theorem dX0_tide_19 : decode cX0_tide 19 = .ok (.ireturn, 1) := dk_172 (dk_at dksX0_tide_0 19 rfl rfl)
abbrev cX0_washes : ByteArray := prog_1_method_26_code
def yX0_washes : MethodName := ⟨RX0, "washes", "()I"⟩
def dkwX0_washes_4 : List UInt8 := [42, 180, 0, 29, 28, 92, 46, 4, 27, 120, 128, 79, 27, 172]
abbrev dktX0_washes_4 : List UInt8 := dkwX0_washes_4 ++ []
def dkwX0_washes_3 : List UInt8 := [46, 184, 0, 93, 42, 180, 0, 29, 28, 46, 184, 0, 93, 162, 0, 5, 29, 61, 132, 3, 1, 167, 255, 219]
abbrev dktX0_washes_3 : List UInt8 := dkwX0_washes_3 ++ dktX0_washes_4
def dkwX0_washes_2 : List UInt8 := [126, 181, 0, 90, 3, 61, 4, 62, 29, 42, 180, 0, 25, 182, 0, 86, 162, 0, 32, 42, 180, 0, 29, 29]
abbrev dktX0_washes_2 : List UInt8 := dkwX0_washes_2 ++ dktX0_washes_3
def dkwX0_washes_1 : List UInt8 := [153, 0, 5, 2, 172, 42, 180, 0, 90, 184, 0, 228, 60, 42, 89, 180, 0, 90, 42, 180, 0, 90, 4, 100]
abbrev dktX0_washes_1 : List UInt8 := dkwX0_washes_1 ++ dktX0_washes_2
def dkwX0_washes_0 : List UInt8 := [42, 89, 180, 0, 99, 4, 96, 181, 0, 99, 42, 180, 0, 90, 153, 0, 13, 42, 180, 0, 25, 182, 0, 224]
abbrev dktX0_washes_0 : List UInt8 := dkwX0_washes_0 ++ dktX0_washes_1
theorem dksX0_washes_0 : cX0_washes.data.toList.drop 0 = dktX0_washes_0 := by decide +kernel
theorem dksX0_washes_1 : cX0_washes.data.toList.drop 24 = dktX0_washes_1 := dk_seg dksX0_washes_0 24 rfl rfl
theorem dksX0_washes_2 : cX0_washes.data.toList.drop 48 = dktX0_washes_2 := dk_seg dksX0_washes_1 24 rfl rfl
theorem dksX0_washes_3 : cX0_washes.data.toList.drop 72 = dktX0_washes_3 := dk_seg dksX0_washes_2 24 rfl rfl
theorem dksX0_washes_4 : cX0_washes.data.toList.drop 96 = dktX0_washes_4 := dk_seg dksX0_washes_3 24 rfl rfl
theorem dX0_washes_0 : decode cX0_washes 0 = .ok (.aload_n 0, 1) := dk_42 (dk_at dksX0_washes_0 0 rfl rfl)
theorem dX0_washes_1 : decode cX0_washes 1 = .ok (.dup, 1) := dk_89 (dk_at dksX0_washes_0 1 rfl rfl)
theorem dX0_washes_2 : decode cX0_washes 2 = .ok (.getfield 99, 3) := dk_180 0 99 (dk_at dksX0_washes_0 2 rfl rfl)
theorem dX0_washes_5 : decode cX0_washes 5 = .ok (.iconst 1, 1) := dk_4 (dk_at dksX0_washes_0 5 rfl rfl)
theorem dX0_washes_6 : decode cX0_washes 6 = .ok (.iadd, 1) := dk_96 (dk_at dksX0_washes_0 6 rfl rfl)
theorem dX0_washes_7 : decode cX0_washes 7 = .ok (.putfield 99, 3) := dk_181 0 99 (dk_at dksX0_washes_0 7 rfl rfl)
theorem dX0_washes_10 : decode cX0_washes 10 = .ok (.aload_n 0, 1) := dk_42 (dk_at dksX0_washes_0 10 rfl rfl)
theorem dX0_washes_11 : decode cX0_washes 11 = .ok (.getfield 90, 3) := dk_180 0 90 (dk_at dksX0_washes_0 11 rfl rfl)
theorem dX0_washes_14 : decode cX0_washes 14 = .ok (.ifCond .eq 13, 3) := dk_153 0 13 (dk_at dksX0_washes_0 14 rfl rfl)
theorem dX0_washes_17 : decode cX0_washes 17 = .ok (.aload_n 0, 1) := dk_42 (dk_at dksX0_washes_0 17 rfl rfl)
theorem dX0_washes_18 : decode cX0_washes 18 = .ok (.getfield 25, 3) := dk_180 0 25 (dk_at dksX0_washes_0 18 rfl rfl)
theorem dX0_washes_21 : decode cX0_washes 21 = .ok (.invokevirtual 224, 3) := dk_182 0 224 (dk_at dksX0_washes_0 21 rfl rfl)
theorem dX0_washes_24 : decode cX0_washes 24 = .ok (.ifCond .eq 5, 3) := dk_153 0 5 (dk_at dksX0_washes_1 0 rfl rfl)
theorem dX0_washes_27 : decode cX0_washes 27 = .ok (.iconst (-1), 1) := dk_2 (dk_at dksX0_washes_1 3 rfl rfl)
theorem dX0_washes_28 : decode cX0_washes 28 = .ok (.ireturn, 1) := dk_172 (dk_at dksX0_washes_1 4 rfl rfl)
theorem dX0_washes_29 : decode cX0_washes 29 = .ok (.aload_n 0, 1) := dk_42 (dk_at dksX0_washes_1 5 rfl rfl)
theorem dX0_washes_30 : decode cX0_washes 30 = .ok (.getfield 90, 3) := dk_180 0 90 (dk_at dksX0_washes_1 6 rfl rfl)
theorem dX0_washes_33 : decode cX0_washes 33 = .ok (.invokestatic 228, 3) := dk_184 0 228 (dk_at dksX0_washes_1 9 rfl rfl)
theorem dX0_washes_36 : decode cX0_washes 36 = .ok (.istore_n 1, 1) := dk_60 (dk_at dksX0_washes_1 12 rfl rfl)
theorem dX0_washes_37 : decode cX0_washes 37 = .ok (.aload_n 0, 1) := dk_42 (dk_at dksX0_washes_1 13 rfl rfl)
theorem dX0_washes_38 : decode cX0_washes 38 = .ok (.dup, 1) := dk_89 (dk_at dksX0_washes_1 14 rfl rfl)
theorem dX0_washes_39 : decode cX0_washes 39 = .ok (.getfield 90, 3) := dk_180 0 90 (dk_at dksX0_washes_1 15 rfl rfl)
theorem dX0_washes_42 : decode cX0_washes 42 = .ok (.aload_n 0, 1) := dk_42 (dk_at dksX0_washes_1 18 rfl rfl)
theorem dX0_washes_43 : decode cX0_washes 43 = .ok (.getfield 90, 3) := dk_180 0 90 (dk_at dksX0_washes_1 19 rfl rfl)
theorem dX0_washes_46 : decode cX0_washes 46 = .ok (.iconst 1, 1) := dk_4 (dk_at dksX0_washes_1 22 rfl rfl)
theorem dX0_washes_47 : decode cX0_washes 47 = .ok (.isub, 1) := dk_100 (dk_at dksX0_washes_1 23 rfl rfl)
theorem dX0_washes_48 : decode cX0_washes 48 = .ok (.iand, 1) := dk_126 (dk_at dksX0_washes_2 0 rfl rfl)
theorem dX0_washes_49 : decode cX0_washes 49 = .ok (.putfield 90, 3) := dk_181 0 90 (dk_at dksX0_washes_2 1 rfl rfl)
theorem dX0_washes_52 : decode cX0_washes 52 = .ok (.iconst 0, 1) := dk_3 (dk_at dksX0_washes_2 4 rfl rfl)
theorem dX0_washes_53 : decode cX0_washes 53 = .ok (.istore_n 2, 1) := dk_61 (dk_at dksX0_washes_2 5 rfl rfl)
theorem dX0_washes_54 : decode cX0_washes 54 = .ok (.iconst 1, 1) := dk_4 (dk_at dksX0_washes_2 6 rfl rfl)
theorem dX0_washes_55 : decode cX0_washes 55 = .ok (.istore_n 3, 1) := dk_62 (dk_at dksX0_washes_2 7 rfl rfl)
theorem dX0_washes_56 : decode cX0_washes 56 = .ok (.iload_n 3, 1) := dk_29 (dk_at dksX0_washes_2 8 rfl rfl)
theorem dX0_washes_57 : decode cX0_washes 57 = .ok (.aload_n 0, 1) := dk_42 (dk_at dksX0_washes_2 9 rfl rfl)
theorem dX0_washes_58 : decode cX0_washes 58 = .ok (.getfield 25, 3) := dk_180 0 25 (dk_at dksX0_washes_2 10 rfl rfl)
theorem dX0_washes_61 : decode cX0_washes 61 = .ok (.invokevirtual 86, 3) := dk_182 0 86 (dk_at dksX0_washes_2 13 rfl rfl)
theorem dX0_washes_64 : decode cX0_washes 64 = .ok (.if_icmp .ge 32, 3) := dk_162 0 32 (dk_at dksX0_washes_2 16 rfl rfl)
theorem dX0_washes_67 : decode cX0_washes 67 = .ok (.aload_n 0, 1) := dk_42 (dk_at dksX0_washes_2 19 rfl rfl)
theorem dX0_washes_68 : decode cX0_washes 68 = .ok (.getfield 29, 3) := dk_180 0 29 (dk_at dksX0_washes_2 20 rfl rfl)
theorem dX0_washes_71 : decode cX0_washes 71 = .ok (.iload_n 3, 1) := dk_29 (dk_at dksX0_washes_2 23 rfl rfl)
theorem dX0_washes_72 : decode cX0_washes 72 = .ok (.iaload, 1) := dk_46 (dk_at dksX0_washes_3 0 rfl rfl)
theorem dX0_washes_73 : decode cX0_washes 73 = .ok (.invokestatic 93, 3) := dk_184 0 93 (dk_at dksX0_washes_3 1 rfl rfl)
theorem dX0_washes_76 : decode cX0_washes 76 = .ok (.aload_n 0, 1) := dk_42 (dk_at dksX0_washes_3 4 rfl rfl)
theorem dX0_washes_77 : decode cX0_washes 77 = .ok (.getfield 29, 3) := dk_180 0 29 (dk_at dksX0_washes_3 5 rfl rfl)
theorem dX0_washes_80 : decode cX0_washes 80 = .ok (.iload_n 2, 1) := dk_28 (dk_at dksX0_washes_3 8 rfl rfl)
theorem dX0_washes_81 : decode cX0_washes 81 = .ok (.iaload, 1) := dk_46 (dk_at dksX0_washes_3 9 rfl rfl)
theorem dX0_washes_82 : decode cX0_washes 82 = .ok (.invokestatic 93, 3) := dk_184 0 93 (dk_at dksX0_washes_3 10 rfl rfl)
theorem dX0_washes_85 : decode cX0_washes 85 = .ok (.if_icmp .ge 5, 3) := dk_162 0 5 (dk_at dksX0_washes_3 13 rfl rfl)
theorem dX0_washes_88 : decode cX0_washes 88 = .ok (.iload_n 3, 1) := dk_29 (dk_at dksX0_washes_3 16 rfl rfl)
theorem dX0_washes_89 : decode cX0_washes 89 = .ok (.istore_n 2, 1) := dk_61 (dk_at dksX0_washes_3 17 rfl rfl)
theorem dX0_washes_90 : decode cX0_washes 90 = .ok (.iinc 3 1, 3) := dk_132 3 1 (dk_at dksX0_washes_3 18 rfl rfl)
theorem dX0_washes_93 : decode cX0_washes 93 = .ok (.goto (-37), 3) := dk_167 255 219 (dk_at dksX0_washes_3 21 rfl rfl)
theorem dX0_washes_96 : decode cX0_washes 96 = .ok (.aload_n 0, 1) := dk_42 (dk_at dksX0_washes_4 0 rfl rfl)
theorem dX0_washes_97 : decode cX0_washes 97 = .ok (.getfield 29, 3) := dk_180 0 29 (dk_at dksX0_washes_4 1 rfl rfl)
theorem dX0_washes_100 : decode cX0_washes 100 = .ok (.iload_n 2, 1) := dk_28 (dk_at dksX0_washes_4 4 rfl rfl)
theorem dX0_washes_101 : decode cX0_washes 101 = .ok (.dup2, 1) := dk_92 (dk_at dksX0_washes_4 5 rfl rfl)
theorem dX0_washes_102 : decode cX0_washes 102 = .ok (.iaload, 1) := dk_46 (dk_at dksX0_washes_4 6 rfl rfl)
theorem dX0_washes_103 : decode cX0_washes 103 = .ok (.iconst 1, 1) := dk_4 (dk_at dksX0_washes_4 7 rfl rfl)
theorem dX0_washes_104 : decode cX0_washes 104 = .ok (.iload_n 1, 1) := dk_27 (dk_at dksX0_washes_4 8 rfl rfl)
theorem dX0_washes_105 : decode cX0_washes 105 = .ok (.ishl, 1) := dk_120 (dk_at dksX0_washes_4 9 rfl rfl)
theorem dX0_washes_106 : decode cX0_washes 106 = .ok (.ior, 1) := dk_128 (dk_at dksX0_washes_4 10 rfl rfl)
theorem dX0_washes_107 : decode cX0_washes 107 = .ok (.iastore, 1) := dk_79 (dk_at dksX0_washes_4 11 rfl rfl)
theorem dX0_washes_108 : decode cX0_washes 108 = .ok (.iload_n 1, 1) := dk_27 (dk_at dksX0_washes_4 12 rfl rfl)
theorem dX0_washes_109 : decode cX0_washes 109 = .ok (.ireturn, 1) := dk_172 (dk_at dksX0_washes_4 13 rfl rfl)
abbrev cX0_talk : ByteArray := prog_1_method_31_code
def yX0_talk : MethodName := ⟨RX0, "talk", "(II)I"⟩
def dkwX0_talk_6 : List UInt8 := [54, 4, 132, 6, 1, 167, 255, 192, 28, 154, 0, 7, 29, 167, 0, 10, 21, 4, 21, 5, 2, 130, 126, 172]
abbrev dktX0_talk_6 : List UInt8 := dkwX0_talk_6 ++ []
def dkwX0_talk_5 : List UInt8 := [21, 4, 42, 180, 0, 29, 21, 6, 46, 126, 128, 54, 5, 21, 4, 42, 180, 0, 29, 21, 6, 46, 128]
abbrev dktX0_talk_5 : List UInt8 := dkwX0_talk_5 ++ dktX0_talk_6
def dkwX0_talk_4 : List UInt8 := [21, 6, 122, 4, 126, 154, 0, 6, 167, 0, 40, 29, 42, 180, 0, 29, 21, 6, 46, 126, 62, 21, 5]
abbrev dktX0_talk_4 : List UInt8 := dkwX0_talk_4 ++ dktX0_talk_5
def dkwX0_talk_3 : List UInt8 := [62, 3, 54, 4, 3, 54, 5, 3, 54, 6, 21, 6, 42, 180, 0, 25, 182, 0, 86, 162, 0, 58, 27]
abbrev dktX0_talk_3 : List UInt8 := dkwX0_talk_3 ++ dktX0_talk_4
def dkwX0_talk_2 : List UInt8 := [160, 0, 11, 42, 27, 182, 0, 242, 167, 0, 13, 18, 245, 42, 27, 182, 0, 242, 2, 130, 126, 172, 18, 245]
abbrev dktX0_talk_2 : List UInt8 := dkwX0_talk_2 ++ dktX0_talk_3
def dkwX0_talk_1 : List UInt8 := [20, 0, 240, 184, 0, 108, 154, 0, 6, 16, 254, 172, 28, 4, 159, 0, 8, 28, 5, 160, 0, 27, 28, 4]
abbrev dktX0_talk_1 : List UInt8 := dkwX0_talk_1 ++ dktX0_talk_2
def dkwX0_talk_0 : List UInt8 := [27, 133, 9, 4, 42, 180, 0, 25, 182, 0, 86, 120, 133, 10, 101, 184, 0, 108, 153, 0, 15, 28, 133, 9]
abbrev dktX0_talk_0 : List UInt8 := dkwX0_talk_0 ++ dktX0_talk_1
theorem dksX0_talk_0 : cX0_talk.data.toList.drop 0 = dktX0_talk_0 := by decide +kernel
theorem dksX0_talk_1 : cX0_talk.data.toList.drop 24 = dktX0_talk_1 := dk_seg dksX0_talk_0 24 rfl rfl
theorem dksX0_talk_2 : cX0_talk.data.toList.drop 48 = dktX0_talk_2 := dk_seg dksX0_talk_1 24 rfl rfl
theorem dksX0_talk_3 : cX0_talk.data.toList.drop 72 = dktX0_talk_3 := dk_seg dksX0_talk_2 24 rfl rfl
theorem dksX0_talk_4 : cX0_talk.data.toList.drop 95 = dktX0_talk_4 := dk_seg dksX0_talk_3 23 rfl rfl
theorem dksX0_talk_5 : cX0_talk.data.toList.drop 118 = dktX0_talk_5 := dk_seg dksX0_talk_4 23 rfl rfl
theorem dksX0_talk_6 : cX0_talk.data.toList.drop 141 = dktX0_talk_6 := dk_seg dksX0_talk_5 23 rfl rfl
theorem dX0_talk_0 : decode cX0_talk 0 = .ok (.iload_n 1, 1) := dk_27 (dk_at dksX0_talk_0 0 rfl rfl)
theorem dX0_talk_1 : decode cX0_talk 1 = .ok (.i2l, 1) := dk_133 (dk_at dksX0_talk_0 1 rfl rfl)
theorem dX0_talk_2 : decode cX0_talk 2 = .ok (.lconst 0, 1) := dk_9 (dk_at dksX0_talk_0 2 rfl rfl)
theorem dX0_talk_3 : decode cX0_talk 3 = .ok (.iconst 1, 1) := dk_4 (dk_at dksX0_talk_0 3 rfl rfl)
theorem dX0_talk_4 : decode cX0_talk 4 = .ok (.aload_n 0, 1) := dk_42 (dk_at dksX0_talk_0 4 rfl rfl)
theorem dX0_talk_5 : decode cX0_talk 5 = .ok (.getfield 25, 3) := dk_180 0 25 (dk_at dksX0_talk_0 5 rfl rfl)
theorem dX0_talk_8 : decode cX0_talk 8 = .ok (.invokevirtual 86, 3) := dk_182 0 86 (dk_at dksX0_talk_0 8 rfl rfl)
theorem dX0_talk_11 : decode cX0_talk 11 = .ok (.ishl, 1) := dk_120 (dk_at dksX0_talk_0 11 rfl rfl)
theorem dX0_talk_12 : decode cX0_talk 12 = .ok (.i2l, 1) := dk_133 (dk_at dksX0_talk_0 12 rfl rfl)
theorem dX0_talk_13 : decode cX0_talk 13 = .ok (.lconst 1, 1) := dk_10 (dk_at dksX0_talk_0 13 rfl rfl)
theorem dX0_talk_14 : decode cX0_talk 14 = .ok (.lsub, 1) := dk_101 (dk_at dksX0_talk_0 14 rfl rfl)
theorem dX0_talk_15 : decode cX0_talk 15 = .ok (.invokestatic 108, 3) := dk_184 0 108 (dk_at dksX0_talk_0 15 rfl rfl)
theorem dX0_talk_18 : decode cX0_talk 18 = .ok (.ifCond .eq 15, 3) := dk_153 0 15 (dk_at dksX0_talk_0 18 rfl rfl)
theorem dX0_talk_21 : decode cX0_talk 21 = .ok (.iload_n 2, 1) := dk_28 (dk_at dksX0_talk_0 21 rfl rfl)
theorem dX0_talk_22 : decode cX0_talk 22 = .ok (.i2l, 1) := dk_133 (dk_at dksX0_talk_0 22 rfl rfl)
theorem dX0_talk_23 : decode cX0_talk 23 = .ok (.lconst 0, 1) := dk_9 (dk_at dksX0_talk_0 23 rfl rfl)
theorem dX0_talk_24 : decode cX0_talk 24 = .ok (.ldc2_w 240, 3) := dk_20 0 240 (dk_at dksX0_talk_1 0 rfl rfl)
theorem dX0_talk_27 : decode cX0_talk 27 = .ok (.invokestatic 108, 3) := dk_184 0 108 (dk_at dksX0_talk_1 3 rfl rfl)
theorem dX0_talk_30 : decode cX0_talk 30 = .ok (.ifCond .ne 6, 3) := dk_154 0 6 (dk_at dksX0_talk_1 6 rfl rfl)
theorem dX0_talk_33 : decode cX0_talk 33 = .ok (.bipush (-2), 2) := dk_16 254 (dk_at dksX0_talk_1 9 rfl rfl)
theorem dX0_talk_35 : decode cX0_talk 35 = .ok (.ireturn, 1) := dk_172 (dk_at dksX0_talk_1 11 rfl rfl)
theorem dX0_talk_36 : decode cX0_talk 36 = .ok (.iload_n 2, 1) := dk_28 (dk_at dksX0_talk_1 12 rfl rfl)
theorem dX0_talk_37 : decode cX0_talk 37 = .ok (.iconst 1, 1) := dk_4 (dk_at dksX0_talk_1 13 rfl rfl)
theorem dX0_talk_38 : decode cX0_talk 38 = .ok (.if_icmp .eq 8, 3) := dk_159 0 8 (dk_at dksX0_talk_1 14 rfl rfl)
theorem dX0_talk_41 : decode cX0_talk 41 = .ok (.iload_n 2, 1) := dk_28 (dk_at dksX0_talk_1 17 rfl rfl)
theorem dX0_talk_42 : decode cX0_talk 42 = .ok (.iconst 2, 1) := dk_5 (dk_at dksX0_talk_1 18 rfl rfl)
theorem dX0_talk_43 : decode cX0_talk 43 = .ok (.if_icmp .ne 27, 3) := dk_160 0 27 (dk_at dksX0_talk_1 19 rfl rfl)
theorem dX0_talk_46 : decode cX0_talk 46 = .ok (.iload_n 2, 1) := dk_28 (dk_at dksX0_talk_1 22 rfl rfl)
theorem dX0_talk_47 : decode cX0_talk 47 = .ok (.iconst 1, 1) := dk_4 (dk_at dksX0_talk_1 23 rfl rfl)
theorem dX0_talk_48 : decode cX0_talk 48 = .ok (.if_icmp .ne 11, 3) := dk_160 0 11 (dk_at dksX0_talk_2 0 rfl rfl)
theorem dX0_talk_51 : decode cX0_talk 51 = .ok (.aload_n 0, 1) := dk_42 (dk_at dksX0_talk_2 3 rfl rfl)
theorem dX0_talk_52 : decode cX0_talk 52 = .ok (.iload_n 1, 1) := dk_27 (dk_at dksX0_talk_2 4 rfl rfl)
theorem dX0_talk_53 : decode cX0_talk 53 = .ok (.invokevirtual 242, 3) := dk_182 0 242 (dk_at dksX0_talk_2 5 rfl rfl)
theorem dX0_talk_56 : decode cX0_talk 56 = .ok (.goto 13, 3) := dk_167 0 13 (dk_at dksX0_talk_2 8 rfl rfl)
theorem dX0_talk_59 : decode cX0_talk 59 = .ok (.ldc 245, 2) := dk_18 245 (dk_at dksX0_talk_2 11 rfl rfl)
theorem dX0_talk_61 : decode cX0_talk 61 = .ok (.aload_n 0, 1) := dk_42 (dk_at dksX0_talk_2 13 rfl rfl)
theorem dX0_talk_62 : decode cX0_talk 62 = .ok (.iload_n 1, 1) := dk_27 (dk_at dksX0_talk_2 14 rfl rfl)
theorem dX0_talk_63 : decode cX0_talk 63 = .ok (.invokevirtual 242, 3) := dk_182 0 242 (dk_at dksX0_talk_2 15 rfl rfl)
theorem dX0_talk_66 : decode cX0_talk 66 = .ok (.iconst (-1), 1) := dk_2 (dk_at dksX0_talk_2 18 rfl rfl)
theorem dX0_talk_67 : decode cX0_talk 67 = .ok (.ixor, 1) := dk_130 (dk_at dksX0_talk_2 19 rfl rfl)
theorem dX0_talk_68 : decode cX0_talk 68 = .ok (.iand, 1) := dk_126 (dk_at dksX0_talk_2 20 rfl rfl)
theorem dX0_talk_69 : decode cX0_talk 69 = .ok (.ireturn, 1) := dk_172 (dk_at dksX0_talk_2 21 rfl rfl)
theorem dX0_talk_70 : decode cX0_talk 70 = .ok (.ldc 245, 2) := dk_18 245 (dk_at dksX0_talk_2 22 rfl rfl)
theorem dX0_talk_72 : decode cX0_talk 72 = .ok (.istore_n 3, 1) := dk_62 (dk_at dksX0_talk_3 0 rfl rfl)
theorem dX0_talk_73 : decode cX0_talk 73 = .ok (.iconst 0, 1) := dk_3 (dk_at dksX0_talk_3 1 rfl rfl)
theorem dX0_talk_74 : decode cX0_talk 74 = .ok (.istore 4, 2) := dk_54 4 (dk_at dksX0_talk_3 2 rfl rfl)
theorem dX0_talk_76 : decode cX0_talk 76 = .ok (.iconst 0, 1) := dk_3 (dk_at dksX0_talk_3 4 rfl rfl)
theorem dX0_talk_77 : decode cX0_talk 77 = .ok (.istore 5, 2) := dk_54 5 (dk_at dksX0_talk_3 5 rfl rfl)
theorem dX0_talk_79 : decode cX0_talk 79 = .ok (.iconst 0, 1) := dk_3 (dk_at dksX0_talk_3 7 rfl rfl)
theorem dX0_talk_80 : decode cX0_talk 80 = .ok (.istore 6, 2) := dk_54 6 (dk_at dksX0_talk_3 8 rfl rfl)
theorem dX0_talk_82 : decode cX0_talk 82 = .ok (.iload 6, 2) := dk_21 6 (dk_at dksX0_talk_3 10 rfl rfl)
theorem dX0_talk_84 : decode cX0_talk 84 = .ok (.aload_n 0, 1) := dk_42 (dk_at dksX0_talk_3 12 rfl rfl)
theorem dX0_talk_85 : decode cX0_talk 85 = .ok (.getfield 25, 3) := dk_180 0 25 (dk_at dksX0_talk_3 13 rfl rfl)
theorem dX0_talk_88 : decode cX0_talk 88 = .ok (.invokevirtual 86, 3) := dk_182 0 86 (dk_at dksX0_talk_3 16 rfl rfl)
theorem dX0_talk_91 : decode cX0_talk 91 = .ok (.if_icmp .ge 58, 3) := dk_162 0 58 (dk_at dksX0_talk_3 19 rfl rfl)
theorem dX0_talk_94 : decode cX0_talk 94 = .ok (.iload_n 1, 1) := dk_27 (dk_at dksX0_talk_3 22 rfl rfl)
theorem dX0_talk_95 : decode cX0_talk 95 = .ok (.iload 6, 2) := dk_21 6 (dk_at dksX0_talk_4 0 rfl rfl)
theorem dX0_talk_97 : decode cX0_talk 97 = .ok (.ishr, 1) := dk_122 (dk_at dksX0_talk_4 2 rfl rfl)
theorem dX0_talk_98 : decode cX0_talk 98 = .ok (.iconst 1, 1) := dk_4 (dk_at dksX0_talk_4 3 rfl rfl)
theorem dX0_talk_99 : decode cX0_talk 99 = .ok (.iand, 1) := dk_126 (dk_at dksX0_talk_4 4 rfl rfl)
theorem dX0_talk_100 : decode cX0_talk 100 = .ok (.ifCond .ne 6, 3) := dk_154 0 6 (dk_at dksX0_talk_4 5 rfl rfl)
theorem dX0_talk_103 : decode cX0_talk 103 = .ok (.goto 40, 3) := dk_167 0 40 (dk_at dksX0_talk_4 8 rfl rfl)
theorem dX0_talk_106 : decode cX0_talk 106 = .ok (.iload_n 3, 1) := dk_29 (dk_at dksX0_talk_4 11 rfl rfl)
theorem dX0_talk_107 : decode cX0_talk 107 = .ok (.aload_n 0, 1) := dk_42 (dk_at dksX0_talk_4 12 rfl rfl)
theorem dX0_talk_108 : decode cX0_talk 108 = .ok (.getfield 29, 3) := dk_180 0 29 (dk_at dksX0_talk_4 13 rfl rfl)
theorem dX0_talk_111 : decode cX0_talk 111 = .ok (.iload 6, 2) := dk_21 6 (dk_at dksX0_talk_4 16 rfl rfl)
theorem dX0_talk_113 : decode cX0_talk 113 = .ok (.iaload, 1) := dk_46 (dk_at dksX0_talk_4 18 rfl rfl)
theorem dX0_talk_114 : decode cX0_talk 114 = .ok (.iand, 1) := dk_126 (dk_at dksX0_talk_4 19 rfl rfl)
theorem dX0_talk_115 : decode cX0_talk 115 = .ok (.istore_n 3, 1) := dk_62 (dk_at dksX0_talk_4 20 rfl rfl)
theorem dX0_talk_116 : decode cX0_talk 116 = .ok (.iload 5, 2) := dk_21 5 (dk_at dksX0_talk_4 21 rfl rfl)
theorem dX0_talk_118 : decode cX0_talk 118 = .ok (.iload 4, 2) := dk_21 4 (dk_at dksX0_talk_5 0 rfl rfl)
theorem dX0_talk_120 : decode cX0_talk 120 = .ok (.aload_n 0, 1) := dk_42 (dk_at dksX0_talk_5 2 rfl rfl)
theorem dX0_talk_121 : decode cX0_talk 121 = .ok (.getfield 29, 3) := dk_180 0 29 (dk_at dksX0_talk_5 3 rfl rfl)
theorem dX0_talk_124 : decode cX0_talk 124 = .ok (.iload 6, 2) := dk_21 6 (dk_at dksX0_talk_5 6 rfl rfl)
theorem dX0_talk_126 : decode cX0_talk 126 = .ok (.iaload, 1) := dk_46 (dk_at dksX0_talk_5 8 rfl rfl)
theorem dX0_talk_127 : decode cX0_talk 127 = .ok (.iand, 1) := dk_126 (dk_at dksX0_talk_5 9 rfl rfl)
theorem dX0_talk_128 : decode cX0_talk 128 = .ok (.ior, 1) := dk_128 (dk_at dksX0_talk_5 10 rfl rfl)
theorem dX0_talk_129 : decode cX0_talk 129 = .ok (.istore 5, 2) := dk_54 5 (dk_at dksX0_talk_5 11 rfl rfl)
theorem dX0_talk_131 : decode cX0_talk 131 = .ok (.iload 4, 2) := dk_21 4 (dk_at dksX0_talk_5 13 rfl rfl)
theorem dX0_talk_133 : decode cX0_talk 133 = .ok (.aload_n 0, 1) := dk_42 (dk_at dksX0_talk_5 15 rfl rfl)
theorem dX0_talk_134 : decode cX0_talk 134 = .ok (.getfield 29, 3) := dk_180 0 29 (dk_at dksX0_talk_5 16 rfl rfl)
theorem dX0_talk_137 : decode cX0_talk 137 = .ok (.iload 6, 2) := dk_21 6 (dk_at dksX0_talk_5 19 rfl rfl)
theorem dX0_talk_139 : decode cX0_talk 139 = .ok (.iaload, 1) := dk_46 (dk_at dksX0_talk_5 21 rfl rfl)
theorem dX0_talk_140 : decode cX0_talk 140 = .ok (.ior, 1) := dk_128 (dk_at dksX0_talk_5 22 rfl rfl)
theorem dX0_talk_141 : decode cX0_talk 141 = .ok (.istore 4, 2) := dk_54 4 (dk_at dksX0_talk_6 0 rfl rfl)
theorem dX0_talk_143 : decode cX0_talk 143 = .ok (.iinc 6 1, 3) := dk_132 6 1 (dk_at dksX0_talk_6 2 rfl rfl)
theorem dX0_talk_146 : decode cX0_talk 146 = .ok (.goto (-64), 3) := dk_167 255 192 (dk_at dksX0_talk_6 5 rfl rfl)
theorem dX0_talk_149 : decode cX0_talk 149 = .ok (.iload_n 2, 1) := dk_28 (dk_at dksX0_talk_6 8 rfl rfl)
theorem dX0_talk_150 : decode cX0_talk 150 = .ok (.ifCond .ne 7, 3) := dk_154 0 7 (dk_at dksX0_talk_6 9 rfl rfl)
theorem dX0_talk_153 : decode cX0_talk 153 = .ok (.iload_n 3, 1) := dk_29 (dk_at dksX0_talk_6 12 rfl rfl)
theorem dX0_talk_154 : decode cX0_talk 154 = .ok (.goto 10, 3) := dk_167 0 10 (dk_at dksX0_talk_6 13 rfl rfl)
theorem dX0_talk_157 : decode cX0_talk 157 = .ok (.iload 4, 2) := dk_21 4 (dk_at dksX0_talk_6 16 rfl rfl)
theorem dX0_talk_159 : decode cX0_talk 159 = .ok (.iload 5, 2) := dk_21 5 (dk_at dksX0_talk_6 18 rfl rfl)
theorem dX0_talk_161 : decode cX0_talk 161 = .ok (.iconst (-1), 1) := dk_2 (dk_at dksX0_talk_6 20 rfl rfl)
theorem dX0_talk_162 : decode cX0_talk 162 = .ok (.ixor, 1) := dk_130 (dk_at dksX0_talk_6 21 rfl rfl)
theorem dX0_talk_163 : decode cX0_talk 163 = .ok (.iand, 1) := dk_126 (dk_at dksX0_talk_6 22 rfl rfl)
theorem dX0_talk_164 : decode cX0_talk 164 = .ok (.ireturn, 1) := dk_172 (dk_at dksX0_talk_6 23 rfl rfl)
abbrev cX0_knownBy : ByteArray := prog_1_method_30_code
def yX0_knownBy : MethodName := ⟨RX0, "knownBy", "(I)I"⟩
def dkwX0_knownBy_1 : List UInt8 := [28, 42, 180, 0, 29, 29, 46, 128, 61, 132, 3, 1, 167, 255, 224, 28, 172]
abbrev dktX0_knownBy_1 : List UInt8 := dkwX0_knownBy_1 ++ []
def dkwX0_knownBy_0 : List UInt8 := [3, 61, 3, 62, 29, 42, 180, 0, 25, 182, 0, 86, 162, 0, 27, 27, 29, 122, 4, 126, 4, 160, 0, 12]
abbrev dktX0_knownBy_0 : List UInt8 := dkwX0_knownBy_0 ++ dktX0_knownBy_1
theorem dksX0_knownBy_0 : cX0_knownBy.data.toList.drop 0 = dktX0_knownBy_0 := by decide +kernel
theorem dksX0_knownBy_1 : cX0_knownBy.data.toList.drop 24 = dktX0_knownBy_1 := dk_seg dksX0_knownBy_0 24 rfl rfl
theorem dX0_knownBy_0 : decode cX0_knownBy 0 = .ok (.iconst 0, 1) := dk_3 (dk_at dksX0_knownBy_0 0 rfl rfl)
theorem dX0_knownBy_1 : decode cX0_knownBy 1 = .ok (.istore_n 2, 1) := dk_61 (dk_at dksX0_knownBy_0 1 rfl rfl)
theorem dX0_knownBy_2 : decode cX0_knownBy 2 = .ok (.iconst 0, 1) := dk_3 (dk_at dksX0_knownBy_0 2 rfl rfl)
theorem dX0_knownBy_3 : decode cX0_knownBy 3 = .ok (.istore_n 3, 1) := dk_62 (dk_at dksX0_knownBy_0 3 rfl rfl)
theorem dX0_knownBy_4 : decode cX0_knownBy 4 = .ok (.iload_n 3, 1) := dk_29 (dk_at dksX0_knownBy_0 4 rfl rfl)
theorem dX0_knownBy_5 : decode cX0_knownBy 5 = .ok (.aload_n 0, 1) := dk_42 (dk_at dksX0_knownBy_0 5 rfl rfl)
theorem dX0_knownBy_6 : decode cX0_knownBy 6 = .ok (.getfield 25, 3) := dk_180 0 25 (dk_at dksX0_knownBy_0 6 rfl rfl)
theorem dX0_knownBy_9 : decode cX0_knownBy 9 = .ok (.invokevirtual 86, 3) := dk_182 0 86 (dk_at dksX0_knownBy_0 9 rfl rfl)
theorem dX0_knownBy_12 : decode cX0_knownBy 12 = .ok (.if_icmp .ge 27, 3) := dk_162 0 27 (dk_at dksX0_knownBy_0 12 rfl rfl)
theorem dX0_knownBy_15 : decode cX0_knownBy 15 = .ok (.iload_n 1, 1) := dk_27 (dk_at dksX0_knownBy_0 15 rfl rfl)
theorem dX0_knownBy_16 : decode cX0_knownBy 16 = .ok (.iload_n 3, 1) := dk_29 (dk_at dksX0_knownBy_0 16 rfl rfl)
theorem dX0_knownBy_17 : decode cX0_knownBy 17 = .ok (.ishr, 1) := dk_122 (dk_at dksX0_knownBy_0 17 rfl rfl)
theorem dX0_knownBy_18 : decode cX0_knownBy 18 = .ok (.iconst 1, 1) := dk_4 (dk_at dksX0_knownBy_0 18 rfl rfl)
theorem dX0_knownBy_19 : decode cX0_knownBy 19 = .ok (.iand, 1) := dk_126 (dk_at dksX0_knownBy_0 19 rfl rfl)
theorem dX0_knownBy_20 : decode cX0_knownBy 20 = .ok (.iconst 1, 1) := dk_4 (dk_at dksX0_knownBy_0 20 rfl rfl)
theorem dX0_knownBy_21 : decode cX0_knownBy 21 = .ok (.if_icmp .ne 12, 3) := dk_160 0 12 (dk_at dksX0_knownBy_0 21 rfl rfl)
theorem dX0_knownBy_24 : decode cX0_knownBy 24 = .ok (.iload_n 2, 1) := dk_28 (dk_at dksX0_knownBy_1 0 rfl rfl)
theorem dX0_knownBy_25 : decode cX0_knownBy 25 = .ok (.aload_n 0, 1) := dk_42 (dk_at dksX0_knownBy_1 1 rfl rfl)
theorem dX0_knownBy_26 : decode cX0_knownBy 26 = .ok (.getfield 29, 3) := dk_180 0 29 (dk_at dksX0_knownBy_1 2 rfl rfl)
theorem dX0_knownBy_29 : decode cX0_knownBy 29 = .ok (.iload_n 3, 1) := dk_29 (dk_at dksX0_knownBy_1 5 rfl rfl)
theorem dX0_knownBy_30 : decode cX0_knownBy 30 = .ok (.iaload, 1) := dk_46 (dk_at dksX0_knownBy_1 6 rfl rfl)
theorem dX0_knownBy_31 : decode cX0_knownBy 31 = .ok (.ior, 1) := dk_128 (dk_at dksX0_knownBy_1 7 rfl rfl)
theorem dX0_knownBy_32 : decode cX0_knownBy 32 = .ok (.istore_n 2, 1) := dk_61 (dk_at dksX0_knownBy_1 8 rfl rfl)
theorem dX0_knownBy_33 : decode cX0_knownBy 33 = .ok (.iinc 3 1, 3) := dk_132 3 1 (dk_at dksX0_knownBy_1 9 rfl rfl)
theorem dX0_knownBy_36 : decode cX0_knownBy 36 = .ok (.goto (-32), 3) := dk_167 255 224 (dk_at dksX0_knownBy_1 12 rfl rfl)
theorem dX0_knownBy_39 : decode cX0_knownBy 39 = .ok (.iload_n 2, 1) := dk_28 (dk_at dksX0_knownBy_1 15 rfl rfl)
theorem dX0_knownBy_40 : decode cX0_knownBy 40 = .ok (.ireturn, 1) := dk_172 (dk_at dksX0_knownBy_1 16 rfl rfl)
abbrev cX0_season : ByteArray := prog_1_method_33_code
def yX0_season : MethodName := ⟨RX0, "season", "(III)I"⟩
def dkwX0_season_7 : List UInt8 := [180, 0, 29, 28, 46, 2, 130, 126, 54, 6, 42, 42, 180, 0, 38, 182, 1, 10, 21, 6, 172]
abbrev dktX0_season_7 : List UInt8 := dkwX0_season_7 ++ []
def dkwX0_season_6 : List UInt8 := [180, 0, 90, 167, 0, 28, 29, 6, 160, 0, 8, 21, 5, 167, 0, 18, 42, 180, 0, 32, 28, 46, 42]
abbrev dktX0_season_6 : List UInt8 := dkwX0_season_6 ++ dktX0_season_7
def dkwX0_season_5 : List UInt8 := [167, 0, 54, 29, 4, 160, 0, 12, 42, 180, 0, 35, 28, 46, 167, 0, 40, 29, 5, 160, 0, 10, 42]
abbrev dktX0_season_5 : List UInt8 := dkwX0_season_5 ++ dktX0_season_6
def dkwX0_season_4 : List UInt8 := [182, 0, 231, 87, 132, 6, 1, 167, 255, 210, 29, 154, 0, 15, 42, 180, 0, 29, 28, 46, 184, 0, 93]
abbrev dktX0_season_4 : List UInt8 := dkwX0_season_4 ++ dktX0_season_5
def dkwX0_season_3 : List UInt8 := [28, 42, 180, 0, 73, 27, 50, 180, 0, 254, 21, 6, 46, 182, 0, 211, 2, 160, 0, 6, 132, 5, 1, 42]
abbrev dktX0_season_3 : List UInt8 := dkwX0_season_3 ++ dktX0_season_4
def dkwX0_season_2 : List UInt8 := [182, 1, 6, 3, 54, 5, 3, 54, 6, 21, 6, 42, 180, 0, 73, 27, 50, 180, 0, 252, 162, 0, 38, 42]
abbrev dktX0_season_2 : List UInt8 := dkwX0_season_2 ++ dktX0_season_3
def dkwX0_season_1 : List UInt8 := [16, 251, 172, 29, 133, 9, 20, 1, 4, 184, 0, 108, 154, 0, 6, 16, 249, 172, 42, 42, 180, 0, 38]
abbrev dktX0_season_1 : List UInt8 := dkwX0_season_1 ++ dktX0_season_2
def dkwX0_season_0 : List UInt8 := [42, 27, 182, 1, 1, 54, 4, 21, 4, 153, 0, 6, 21, 4, 172, 42, 28, 182, 0, 137, 154, 0, 6]
abbrev dktX0_season_0 : List UInt8 := dkwX0_season_0 ++ dktX0_season_1
theorem dksX0_season_0 : cX0_season.data.toList.drop 0 = dktX0_season_0 := by decide +kernel
theorem dksX0_season_1 : cX0_season.data.toList.drop 23 = dktX0_season_1 := dk_seg dksX0_season_0 23 rfl rfl
theorem dksX0_season_2 : cX0_season.data.toList.drop 46 = dktX0_season_2 := dk_seg dksX0_season_1 23 rfl rfl
theorem dksX0_season_3 : cX0_season.data.toList.drop 70 = dktX0_season_3 := dk_seg dksX0_season_2 24 rfl rfl
theorem dksX0_season_4 : cX0_season.data.toList.drop 94 = dktX0_season_4 := dk_seg dksX0_season_3 24 rfl rfl
theorem dksX0_season_5 : cX0_season.data.toList.drop 117 = dktX0_season_5 := dk_seg dksX0_season_4 23 rfl rfl
theorem dksX0_season_6 : cX0_season.data.toList.drop 140 = dktX0_season_6 := dk_seg dksX0_season_5 23 rfl rfl
theorem dksX0_season_7 : cX0_season.data.toList.drop 163 = dktX0_season_7 := dk_seg dksX0_season_6 23 rfl rfl
theorem dX0_season_0 : decode cX0_season 0 = .ok (.aload_n 0, 1) := dk_42 (dk_at dksX0_season_0 0 rfl rfl)
theorem dX0_season_1 : decode cX0_season 1 = .ok (.iload_n 1, 1) := dk_27 (dk_at dksX0_season_0 1 rfl rfl)
theorem dX0_season_2 : decode cX0_season 2 = .ok (.invokevirtual 257, 3) := dk_182 1 1 (dk_at dksX0_season_0 2 rfl rfl)
theorem dX0_season_5 : decode cX0_season 5 = .ok (.istore 4, 2) := dk_54 4 (dk_at dksX0_season_0 5 rfl rfl)
theorem dX0_season_7 : decode cX0_season 7 = .ok (.iload 4, 2) := dk_21 4 (dk_at dksX0_season_0 7 rfl rfl)
theorem dX0_season_9 : decode cX0_season 9 = .ok (.ifCond .eq 6, 3) := dk_153 0 6 (dk_at dksX0_season_0 9 rfl rfl)
theorem dX0_season_12 : decode cX0_season 12 = .ok (.iload 4, 2) := dk_21 4 (dk_at dksX0_season_0 12 rfl rfl)
theorem dX0_season_14 : decode cX0_season 14 = .ok (.ireturn, 1) := dk_172 (dk_at dksX0_season_0 14 rfl rfl)
theorem dX0_season_15 : decode cX0_season 15 = .ok (.aload_n 0, 1) := dk_42 (dk_at dksX0_season_0 15 rfl rfl)
theorem dX0_season_16 : decode cX0_season 16 = .ok (.iload_n 2, 1) := dk_28 (dk_at dksX0_season_0 16 rfl rfl)
theorem dX0_season_17 : decode cX0_season 17 = .ok (.invokevirtual 137, 3) := dk_182 0 137 (dk_at dksX0_season_0 17 rfl rfl)
theorem dX0_season_20 : decode cX0_season 20 = .ok (.ifCond .ne 6, 3) := dk_154 0 6 (dk_at dksX0_season_0 20 rfl rfl)
theorem dX0_season_23 : decode cX0_season 23 = .ok (.bipush (-5), 2) := dk_16 251 (dk_at dksX0_season_1 0 rfl rfl)
theorem dX0_season_25 : decode cX0_season 25 = .ok (.ireturn, 1) := dk_172 (dk_at dksX0_season_1 2 rfl rfl)
theorem dX0_season_26 : decode cX0_season 26 = .ok (.iload_n 3, 1) := dk_29 (dk_at dksX0_season_1 3 rfl rfl)
theorem dX0_season_27 : decode cX0_season 27 = .ok (.i2l, 1) := dk_133 (dk_at dksX0_season_1 4 rfl rfl)
theorem dX0_season_28 : decode cX0_season 28 = .ok (.lconst 0, 1) := dk_9 (dk_at dksX0_season_1 5 rfl rfl)
theorem dX0_season_29 : decode cX0_season 29 = .ok (.ldc2_w 260, 3) := dk_20 1 4 (dk_at dksX0_season_1 6 rfl rfl)
theorem dX0_season_32 : decode cX0_season 32 = .ok (.invokestatic 108, 3) := dk_184 0 108 (dk_at dksX0_season_1 9 rfl rfl)
theorem dX0_season_35 : decode cX0_season 35 = .ok (.ifCond .ne 6, 3) := dk_154 0 6 (dk_at dksX0_season_1 12 rfl rfl)
theorem dX0_season_38 : decode cX0_season 38 = .ok (.bipush (-7), 2) := dk_16 249 (dk_at dksX0_season_1 15 rfl rfl)
theorem dX0_season_40 : decode cX0_season 40 = .ok (.ireturn, 1) := dk_172 (dk_at dksX0_season_1 17 rfl rfl)
theorem dX0_season_41 : decode cX0_season 41 = .ok (.aload_n 0, 1) := dk_42 (dk_at dksX0_season_1 18 rfl rfl)
theorem dX0_season_42 : decode cX0_season 42 = .ok (.aload_n 0, 1) := dk_42 (dk_at dksX0_season_1 19 rfl rfl)
theorem dX0_season_43 : decode cX0_season 43 = .ok (.getfield 38, 3) := dk_180 0 38 (dk_at dksX0_season_1 20 rfl rfl)
theorem dX0_season_46 : decode cX0_season 46 = .ok (.invokevirtual 262, 3) := dk_182 1 6 (dk_at dksX0_season_2 0 rfl rfl)
theorem dX0_season_49 : decode cX0_season 49 = .ok (.iconst 0, 1) := dk_3 (dk_at dksX0_season_2 3 rfl rfl)
theorem dX0_season_50 : decode cX0_season 50 = .ok (.istore 5, 2) := dk_54 5 (dk_at dksX0_season_2 4 rfl rfl)
theorem dX0_season_52 : decode cX0_season 52 = .ok (.iconst 0, 1) := dk_3 (dk_at dksX0_season_2 6 rfl rfl)
theorem dX0_season_53 : decode cX0_season 53 = .ok (.istore 6, 2) := dk_54 6 (dk_at dksX0_season_2 7 rfl rfl)
theorem dX0_season_55 : decode cX0_season 55 = .ok (.iload 6, 2) := dk_21 6 (dk_at dksX0_season_2 9 rfl rfl)
theorem dX0_season_57 : decode cX0_season 57 = .ok (.aload_n 0, 1) := dk_42 (dk_at dksX0_season_2 11 rfl rfl)
theorem dX0_season_58 : decode cX0_season 58 = .ok (.getfield 73, 3) := dk_180 0 73 (dk_at dksX0_season_2 12 rfl rfl)
theorem dX0_season_61 : decode cX0_season 61 = .ok (.iload_n 1, 1) := dk_27 (dk_at dksX0_season_2 15 rfl rfl)
theorem dX0_season_62 : decode cX0_season 62 = .ok (.aaload, 1) := dk_50 (dk_at dksX0_season_2 16 rfl rfl)
theorem dX0_season_63 : decode cX0_season 63 = .ok (.getfield 252, 3) := dk_180 0 252 (dk_at dksX0_season_2 17 rfl rfl)
theorem dX0_season_66 : decode cX0_season 66 = .ok (.if_icmp .ge 38, 3) := dk_162 0 38 (dk_at dksX0_season_2 20 rfl rfl)
theorem dX0_season_69 : decode cX0_season 69 = .ok (.aload_n 0, 1) := dk_42 (dk_at dksX0_season_2 23 rfl rfl)
theorem dX0_season_70 : decode cX0_season 70 = .ok (.iload_n 2, 1) := dk_28 (dk_at dksX0_season_3 0 rfl rfl)
theorem dX0_season_71 : decode cX0_season 71 = .ok (.aload_n 0, 1) := dk_42 (dk_at dksX0_season_3 1 rfl rfl)
theorem dX0_season_72 : decode cX0_season 72 = .ok (.getfield 73, 3) := dk_180 0 73 (dk_at dksX0_season_3 2 rfl rfl)
theorem dX0_season_75 : decode cX0_season 75 = .ok (.iload_n 1, 1) := dk_27 (dk_at dksX0_season_3 5 rfl rfl)
theorem dX0_season_76 : decode cX0_season 76 = .ok (.aaload, 1) := dk_50 (dk_at dksX0_season_3 6 rfl rfl)
theorem dX0_season_77 : decode cX0_season 77 = .ok (.getfield 254, 3) := dk_180 0 254 (dk_at dksX0_season_3 7 rfl rfl)
theorem dX0_season_80 : decode cX0_season 80 = .ok (.iload 6, 2) := dk_21 6 (dk_at dksX0_season_3 10 rfl rfl)
theorem dX0_season_82 : decode cX0_season 82 = .ok (.iaload, 1) := dk_46 (dk_at dksX0_season_3 12 rfl rfl)
theorem dX0_season_83 : decode cX0_season 83 = .ok (.invokevirtual 211, 3) := dk_182 0 211 (dk_at dksX0_season_3 13 rfl rfl)
theorem dX0_season_86 : decode cX0_season 86 = .ok (.iconst (-1), 1) := dk_2 (dk_at dksX0_season_3 16 rfl rfl)
theorem dX0_season_87 : decode cX0_season 87 = .ok (.if_icmp .ne 6, 3) := dk_160 0 6 (dk_at dksX0_season_3 17 rfl rfl)
theorem dX0_season_90 : decode cX0_season 90 = .ok (.iinc 5 1, 3) := dk_132 5 1 (dk_at dksX0_season_3 20 rfl rfl)
theorem dX0_season_93 : decode cX0_season 93 = .ok (.aload_n 0, 1) := dk_42 (dk_at dksX0_season_3 23 rfl rfl)
theorem dX0_season_94 : decode cX0_season 94 = .ok (.invokevirtual 231, 3) := dk_182 0 231 (dk_at dksX0_season_4 0 rfl rfl)
theorem dX0_season_97 : decode cX0_season 97 = .ok (.pop, 1) := dk_87 (dk_at dksX0_season_4 3 rfl rfl)
theorem dX0_season_98 : decode cX0_season 98 = .ok (.iinc 6 1, 3) := dk_132 6 1 (dk_at dksX0_season_4 4 rfl rfl)
theorem dX0_season_101 : decode cX0_season 101 = .ok (.goto (-46), 3) := dk_167 255 210 (dk_at dksX0_season_4 7 rfl rfl)
theorem dX0_season_104 : decode cX0_season 104 = .ok (.iload_n 3, 1) := dk_29 (dk_at dksX0_season_4 10 rfl rfl)
theorem dX0_season_105 : decode cX0_season 105 = .ok (.ifCond .ne 15, 3) := dk_154 0 15 (dk_at dksX0_season_4 11 rfl rfl)
theorem dX0_season_108 : decode cX0_season 108 = .ok (.aload_n 0, 1) := dk_42 (dk_at dksX0_season_4 14 rfl rfl)
theorem dX0_season_109 : decode cX0_season 109 = .ok (.getfield 29, 3) := dk_180 0 29 (dk_at dksX0_season_4 15 rfl rfl)
theorem dX0_season_112 : decode cX0_season 112 = .ok (.iload_n 2, 1) := dk_28 (dk_at dksX0_season_4 18 rfl rfl)
theorem dX0_season_113 : decode cX0_season 113 = .ok (.iaload, 1) := dk_46 (dk_at dksX0_season_4 19 rfl rfl)
theorem dX0_season_114 : decode cX0_season 114 = .ok (.invokestatic 93, 3) := dk_184 0 93 (dk_at dksX0_season_4 20 rfl rfl)
theorem dX0_season_117 : decode cX0_season 117 = .ok (.goto 54, 3) := dk_167 0 54 (dk_at dksX0_season_5 0 rfl rfl)
theorem dX0_season_120 : decode cX0_season 120 = .ok (.iload_n 3, 1) := dk_29 (dk_at dksX0_season_5 3 rfl rfl)
theorem dX0_season_121 : decode cX0_season 121 = .ok (.iconst 1, 1) := dk_4 (dk_at dksX0_season_5 4 rfl rfl)
theorem dX0_season_122 : decode cX0_season 122 = .ok (.if_icmp .ne 12, 3) := dk_160 0 12 (dk_at dksX0_season_5 5 rfl rfl)
theorem dX0_season_125 : decode cX0_season 125 = .ok (.aload_n 0, 1) := dk_42 (dk_at dksX0_season_5 8 rfl rfl)
theorem dX0_season_126 : decode cX0_season 126 = .ok (.getfield 35, 3) := dk_180 0 35 (dk_at dksX0_season_5 9 rfl rfl)
theorem dX0_season_129 : decode cX0_season 129 = .ok (.iload_n 2, 1) := dk_28 (dk_at dksX0_season_5 12 rfl rfl)
theorem dX0_season_130 : decode cX0_season 130 = .ok (.iaload, 1) := dk_46 (dk_at dksX0_season_5 13 rfl rfl)
theorem dX0_season_131 : decode cX0_season 131 = .ok (.goto 40, 3) := dk_167 0 40 (dk_at dksX0_season_5 14 rfl rfl)
theorem dX0_season_134 : decode cX0_season 134 = .ok (.iload_n 3, 1) := dk_29 (dk_at dksX0_season_5 17 rfl rfl)
theorem dX0_season_135 : decode cX0_season 135 = .ok (.iconst 2, 1) := dk_5 (dk_at dksX0_season_5 18 rfl rfl)
theorem dX0_season_136 : decode cX0_season 136 = .ok (.if_icmp .ne 10, 3) := dk_160 0 10 (dk_at dksX0_season_5 19 rfl rfl)
theorem dX0_season_139 : decode cX0_season 139 = .ok (.aload_n 0, 1) := dk_42 (dk_at dksX0_season_5 22 rfl rfl)
theorem dX0_season_140 : decode cX0_season 140 = .ok (.getfield 90, 3) := dk_180 0 90 (dk_at dksX0_season_6 0 rfl rfl)
theorem dX0_season_143 : decode cX0_season 143 = .ok (.goto 28, 3) := dk_167 0 28 (dk_at dksX0_season_6 3 rfl rfl)
theorem dX0_season_146 : decode cX0_season 146 = .ok (.iload_n 3, 1) := dk_29 (dk_at dksX0_season_6 6 rfl rfl)
theorem dX0_season_147 : decode cX0_season 147 = .ok (.iconst 3, 1) := dk_6 (dk_at dksX0_season_6 7 rfl rfl)
theorem dX0_season_148 : decode cX0_season 148 = .ok (.if_icmp .ne 8, 3) := dk_160 0 8 (dk_at dksX0_season_6 8 rfl rfl)
theorem dX0_season_151 : decode cX0_season 151 = .ok (.iload 5, 2) := dk_21 5 (dk_at dksX0_season_6 11 rfl rfl)
theorem dX0_season_153 : decode cX0_season 153 = .ok (.goto 18, 3) := dk_167 0 18 (dk_at dksX0_season_6 13 rfl rfl)
theorem dX0_season_156 : decode cX0_season 156 = .ok (.aload_n 0, 1) := dk_42 (dk_at dksX0_season_6 16 rfl rfl)
theorem dX0_season_157 : decode cX0_season 157 = .ok (.getfield 32, 3) := dk_180 0 32 (dk_at dksX0_season_6 17 rfl rfl)
theorem dX0_season_160 : decode cX0_season 160 = .ok (.iload_n 2, 1) := dk_28 (dk_at dksX0_season_6 20 rfl rfl)
theorem dX0_season_161 : decode cX0_season 161 = .ok (.iaload, 1) := dk_46 (dk_at dksX0_season_6 21 rfl rfl)
theorem dX0_season_162 : decode cX0_season 162 = .ok (.aload_n 0, 1) := dk_42 (dk_at dksX0_season_6 22 rfl rfl)
theorem dX0_season_163 : decode cX0_season 163 = .ok (.getfield 29, 3) := dk_180 0 29 (dk_at dksX0_season_7 0 rfl rfl)
theorem dX0_season_166 : decode cX0_season 166 = .ok (.iload_n 2, 1) := dk_28 (dk_at dksX0_season_7 3 rfl rfl)
theorem dX0_season_167 : decode cX0_season 167 = .ok (.iaload, 1) := dk_46 (dk_at dksX0_season_7 4 rfl rfl)
theorem dX0_season_168 : decode cX0_season 168 = .ok (.iconst (-1), 1) := dk_2 (dk_at dksX0_season_7 5 rfl rfl)
theorem dX0_season_169 : decode cX0_season 169 = .ok (.ixor, 1) := dk_130 (dk_at dksX0_season_7 6 rfl rfl)
theorem dX0_season_170 : decode cX0_season 170 = .ok (.iand, 1) := dk_126 (dk_at dksX0_season_7 7 rfl rfl)
theorem dX0_season_171 : decode cX0_season 171 = .ok (.istore 6, 2) := dk_54 6 (dk_at dksX0_season_7 8 rfl rfl)
theorem dX0_season_173 : decode cX0_season 173 = .ok (.aload_n 0, 1) := dk_42 (dk_at dksX0_season_7 10 rfl rfl)
theorem dX0_season_174 : decode cX0_season 174 = .ok (.aload_n 0, 1) := dk_42 (dk_at dksX0_season_7 11 rfl rfl)
theorem dX0_season_175 : decode cX0_season 175 = .ok (.getfield 38, 3) := dk_180 0 38 (dk_at dksX0_season_7 12 rfl rfl)
theorem dX0_season_178 : decode cX0_season 178 = .ok (.invokevirtual 266, 3) := dk_182 1 10 (dk_at dksX0_season_7 15 rfl rfl)
theorem dX0_season_181 : decode cX0_season 181 = .ok (.iload 6, 2) := dk_21 6 (dk_at dksX0_season_7 18 rfl rfl)
theorem dX0_season_183 : decode cX0_season 183 = .ok (.ireturn, 1) := dk_172 (dk_at dksX0_season_7 20 rfl rfl)
abbrev cX0_seasonBad : ByteArray := prog_1_method_32_code
def yX0_seasonBad : MethodName := ⟨RX0, "seasonBad", "(I)I"⟩
def dkwX0_seasonBad_2 : List UInt8 := [154, 0, 6, 16, 254, 172, 132, 3, 1, 167, 255, 230, 3, 172]
abbrev dktX0_seasonBad_2 : List UInt8 := dkwX0_seasonBad_2 ++ []
def dkwX0_seasonBad_1 : List UInt8 := [16, 245, 172, 3, 62, 29, 44, 180, 0, 252, 162, 0, 24, 44, 180, 0, 254, 29, 46, 184, 0, 141]
abbrev dktX0_seasonBad_1 : List UInt8 := dkwX0_seasonBad_1 ++ dktX0_seasonBad_2
def dkwX0_seasonBad_0 : List UInt8 := [27, 184, 0, 246, 154, 0, 6, 16, 254, 172, 42, 180, 0, 73, 27, 50, 77, 44, 180, 0, 249, 156, 0, 6]
abbrev dktX0_seasonBad_0 : List UInt8 := dkwX0_seasonBad_0 ++ dktX0_seasonBad_1
theorem dksX0_seasonBad_0 : cX0_seasonBad.data.toList.drop 0 = dktX0_seasonBad_0 := by decide +kernel
theorem dksX0_seasonBad_1 : cX0_seasonBad.data.toList.drop 24 = dktX0_seasonBad_1 := dk_seg dksX0_seasonBad_0 24 rfl rfl
theorem dksX0_seasonBad_2 : cX0_seasonBad.data.toList.drop 46 = dktX0_seasonBad_2 := dk_seg dksX0_seasonBad_1 22 rfl rfl
theorem dX0_seasonBad_0 : decode cX0_seasonBad 0 = .ok (.iload_n 1, 1) := dk_27 (dk_at dksX0_seasonBad_0 0 rfl rfl)
theorem dX0_seasonBad_1 : decode cX0_seasonBad 1 = .ok (.invokestatic 246, 3) := dk_184 0 246 (dk_at dksX0_seasonBad_0 1 rfl rfl)
theorem dX0_seasonBad_4 : decode cX0_seasonBad 4 = .ok (.ifCond .ne 6, 3) := dk_154 0 6 (dk_at dksX0_seasonBad_0 4 rfl rfl)
theorem dX0_seasonBad_7 : decode cX0_seasonBad 7 = .ok (.bipush (-2), 2) := dk_16 254 (dk_at dksX0_seasonBad_0 7 rfl rfl)
theorem dX0_seasonBad_9 : decode cX0_seasonBad 9 = .ok (.ireturn, 1) := dk_172 (dk_at dksX0_seasonBad_0 9 rfl rfl)
theorem dX0_seasonBad_10 : decode cX0_seasonBad 10 = .ok (.aload_n 0, 1) := dk_42 (dk_at dksX0_seasonBad_0 10 rfl rfl)
theorem dX0_seasonBad_11 : decode cX0_seasonBad 11 = .ok (.getfield 73, 3) := dk_180 0 73 (dk_at dksX0_seasonBad_0 11 rfl rfl)
theorem dX0_seasonBad_14 : decode cX0_seasonBad 14 = .ok (.iload_n 1, 1) := dk_27 (dk_at dksX0_seasonBad_0 14 rfl rfl)
theorem dX0_seasonBad_15 : decode cX0_seasonBad 15 = .ok (.aaload, 1) := dk_50 (dk_at dksX0_seasonBad_0 15 rfl rfl)
theorem dX0_seasonBad_16 : decode cX0_seasonBad 16 = .ok (.astore_n 2, 1) := dk_77 (dk_at dksX0_seasonBad_0 16 rfl rfl)
theorem dX0_seasonBad_17 : decode cX0_seasonBad 17 = .ok (.aload_n 2, 1) := dk_44 (dk_at dksX0_seasonBad_0 17 rfl rfl)
theorem dX0_seasonBad_18 : decode cX0_seasonBad 18 = .ok (.getfield 249, 3) := dk_180 0 249 (dk_at dksX0_seasonBad_0 18 rfl rfl)
theorem dX0_seasonBad_21 : decode cX0_seasonBad 21 = .ok (.ifCond .ge 6, 3) := dk_156 0 6 (dk_at dksX0_seasonBad_0 21 rfl rfl)
theorem dX0_seasonBad_24 : decode cX0_seasonBad 24 = .ok (.bipush (-11), 2) := dk_16 245 (dk_at dksX0_seasonBad_1 0 rfl rfl)
theorem dX0_seasonBad_26 : decode cX0_seasonBad 26 = .ok (.ireturn, 1) := dk_172 (dk_at dksX0_seasonBad_1 2 rfl rfl)
theorem dX0_seasonBad_27 : decode cX0_seasonBad 27 = .ok (.iconst 0, 1) := dk_3 (dk_at dksX0_seasonBad_1 3 rfl rfl)
theorem dX0_seasonBad_28 : decode cX0_seasonBad 28 = .ok (.istore_n 3, 1) := dk_62 (dk_at dksX0_seasonBad_1 4 rfl rfl)
theorem dX0_seasonBad_29 : decode cX0_seasonBad 29 = .ok (.iload_n 3, 1) := dk_29 (dk_at dksX0_seasonBad_1 5 rfl rfl)
theorem dX0_seasonBad_30 : decode cX0_seasonBad 30 = .ok (.aload_n 2, 1) := dk_44 (dk_at dksX0_seasonBad_1 6 rfl rfl)
theorem dX0_seasonBad_31 : decode cX0_seasonBad 31 = .ok (.getfield 252, 3) := dk_180 0 252 (dk_at dksX0_seasonBad_1 7 rfl rfl)
theorem dX0_seasonBad_34 : decode cX0_seasonBad 34 = .ok (.if_icmp .ge 24, 3) := dk_162 0 24 (dk_at dksX0_seasonBad_1 10 rfl rfl)
theorem dX0_seasonBad_37 : decode cX0_seasonBad 37 = .ok (.aload_n 2, 1) := dk_44 (dk_at dksX0_seasonBad_1 13 rfl rfl)
theorem dX0_seasonBad_38 : decode cX0_seasonBad 38 = .ok (.getfield 254, 3) := dk_180 0 254 (dk_at dksX0_seasonBad_1 14 rfl rfl)
theorem dX0_seasonBad_41 : decode cX0_seasonBad 41 = .ok (.iload_n 3, 1) := dk_29 (dk_at dksX0_seasonBad_1 17 rfl rfl)
theorem dX0_seasonBad_42 : decode cX0_seasonBad 42 = .ok (.iaload, 1) := dk_46 (dk_at dksX0_seasonBad_1 18 rfl rfl)
theorem dX0_seasonBad_43 : decode cX0_seasonBad 43 = .ok (.invokestatic 141, 3) := dk_184 0 141 (dk_at dksX0_seasonBad_1 19 rfl rfl)
theorem dX0_seasonBad_46 : decode cX0_seasonBad 46 = .ok (.ifCond .ne 6, 3) := dk_154 0 6 (dk_at dksX0_seasonBad_2 0 rfl rfl)
theorem dX0_seasonBad_49 : decode cX0_seasonBad 49 = .ok (.bipush (-2), 2) := dk_16 254 (dk_at dksX0_seasonBad_2 3 rfl rfl)
theorem dX0_seasonBad_51 : decode cX0_seasonBad 51 = .ok (.ireturn, 1) := dk_172 (dk_at dksX0_seasonBad_2 5 rfl rfl)
theorem dX0_seasonBad_52 : decode cX0_seasonBad 52 = .ok (.iinc 3 1, 3) := dk_132 3 1 (dk_at dksX0_seasonBad_2 6 rfl rfl)
theorem dX0_seasonBad_55 : decode cX0_seasonBad 55 = .ok (.goto (-26), 3) := dk_167 255 230 (dk_at dksX0_seasonBad_2 9 rfl rfl)
theorem dX0_seasonBad_58 : decode cX0_seasonBad 58 = .ok (.iconst 0, 1) := dk_3 (dk_at dksX0_seasonBad_2 12 rfl rfl)
theorem dX0_seasonBad_59 : decode cX0_seasonBad 59 = .ok (.ireturn, 1) := dk_172 (dk_at dksX0_seasonBad_2 13 rfl rfl)
abbrev cX0_isSheet : ByteArray := prog_1_method_60_code
def yX0_isSheet : MethodName := ⟨RX0, "isSheet", "(I)Z"⟩
def dkwX0_isSheet_0 : List UInt8 := [26, 133, 9, 20, 0, 240, 184, 0, 108, 172]
abbrev dktX0_isSheet_0 : List UInt8 := dkwX0_isSheet_0 ++ []
theorem dksX0_isSheet_0 : cX0_isSheet.data.toList.drop 0 = dktX0_isSheet_0 := by decide +kernel
theorem dX0_isSheet_0 : decode cX0_isSheet 0 = .ok (.iload_n 0, 1) := dk_26 (dk_at dksX0_isSheet_0 0 rfl rfl)
theorem dX0_isSheet_1 : decode cX0_isSheet 1 = .ok (.i2l, 1) := dk_133 (dk_at dksX0_isSheet_0 1 rfl rfl)
theorem dX0_isSheet_2 : decode cX0_isSheet 2 = .ok (.lconst 0, 1) := dk_9 (dk_at dksX0_isSheet_0 2 rfl rfl)
theorem dX0_isSheet_3 : decode cX0_isSheet 3 = .ok (.ldc2_w 240, 3) := dk_20 0 240 (dk_at dksX0_isSheet_0 3 rfl rfl)
theorem dX0_isSheet_6 : decode cX0_isSheet 6 = .ok (.invokestatic 108, 3) := dk_184 0 108 (dk_at dksX0_isSheet_0 6 rfl rfl)
theorem dX0_isSheet_9 : decode cX0_isSheet 9 = .ok (.ireturn, 1) := dk_172 (dk_at dksX0_isSheet_0 9 rfl rfl)
abbrev cX0_copies : ByteArray := prog_1_method_28_code
def yX0_copies : MethodName := ⟨RX0, "copies", "([I)V"⟩
def dkwX0_copies_2 : List UInt8 := [43, 16, 19, 42, 180, 0, 99, 79, 177]
abbrev dktX0_copies_2 : List UInt8 := dkwX0_copies_2 ++ []
def dkwX0_copies_1 : List UInt8 := [184, 0, 234, 42, 180, 0, 35, 3, 43, 16, 12, 16, 6, 184, 0, 234, 43, 16, 18, 42, 180, 0, 90, 79]
abbrev dktX0_copies_1 : List UInt8 := dkwX0_copies_1 ++ dktX0_copies_2
def dkwX0_copies_0 : List UInt8 := [42, 180, 0, 29, 3, 43, 3, 16, 6, 184, 0, 234, 42, 180, 0, 32, 3, 43, 16, 6, 16, 6]
abbrev dktX0_copies_0 : List UInt8 := dkwX0_copies_0 ++ dktX0_copies_1
theorem dksX0_copies_0 : cX0_copies.data.toList.drop 0 = dktX0_copies_0 := by decide +kernel
theorem dksX0_copies_1 : cX0_copies.data.toList.drop 22 = dktX0_copies_1 := dk_seg dksX0_copies_0 22 rfl rfl
theorem dksX0_copies_2 : cX0_copies.data.toList.drop 46 = dktX0_copies_2 := dk_seg dksX0_copies_1 24 rfl rfl
theorem dX0_copies_0 : decode cX0_copies 0 = .ok (.aload_n 0, 1) := dk_42 (dk_at dksX0_copies_0 0 rfl rfl)
theorem dX0_copies_1 : decode cX0_copies 1 = .ok (.getfield 29, 3) := dk_180 0 29 (dk_at dksX0_copies_0 1 rfl rfl)
theorem dX0_copies_4 : decode cX0_copies 4 = .ok (.iconst 0, 1) := dk_3 (dk_at dksX0_copies_0 4 rfl rfl)
theorem dX0_copies_5 : decode cX0_copies 5 = .ok (.aload_n 1, 1) := dk_43 (dk_at dksX0_copies_0 5 rfl rfl)
theorem dX0_copies_6 : decode cX0_copies 6 = .ok (.iconst 0, 1) := dk_3 (dk_at dksX0_copies_0 6 rfl rfl)
theorem dX0_copies_7 : decode cX0_copies 7 = .ok (.bipush 6, 2) := dk_16 6 (dk_at dksX0_copies_0 7 rfl rfl)
theorem dX0_copies_9 : decode cX0_copies 9 = .ok (.invokestatic 234, 3) := dk_184 0 234 (dk_at dksX0_copies_0 9 rfl rfl)
theorem dX0_copies_12 : decode cX0_copies 12 = .ok (.aload_n 0, 1) := dk_42 (dk_at dksX0_copies_0 12 rfl rfl)
theorem dX0_copies_13 : decode cX0_copies 13 = .ok (.getfield 32, 3) := dk_180 0 32 (dk_at dksX0_copies_0 13 rfl rfl)
theorem dX0_copies_16 : decode cX0_copies 16 = .ok (.iconst 0, 1) := dk_3 (dk_at dksX0_copies_0 16 rfl rfl)
theorem dX0_copies_17 : decode cX0_copies 17 = .ok (.aload_n 1, 1) := dk_43 (dk_at dksX0_copies_0 17 rfl rfl)
theorem dX0_copies_18 : decode cX0_copies 18 = .ok (.bipush 6, 2) := dk_16 6 (dk_at dksX0_copies_0 18 rfl rfl)
theorem dX0_copies_20 : decode cX0_copies 20 = .ok (.bipush 6, 2) := dk_16 6 (dk_at dksX0_copies_0 20 rfl rfl)
theorem dX0_copies_22 : decode cX0_copies 22 = .ok (.invokestatic 234, 3) := dk_184 0 234 (dk_at dksX0_copies_1 0 rfl rfl)
theorem dX0_copies_25 : decode cX0_copies 25 = .ok (.aload_n 0, 1) := dk_42 (dk_at dksX0_copies_1 3 rfl rfl)
theorem dX0_copies_26 : decode cX0_copies 26 = .ok (.getfield 35, 3) := dk_180 0 35 (dk_at dksX0_copies_1 4 rfl rfl)
theorem dX0_copies_29 : decode cX0_copies 29 = .ok (.iconst 0, 1) := dk_3 (dk_at dksX0_copies_1 7 rfl rfl)
theorem dX0_copies_30 : decode cX0_copies 30 = .ok (.aload_n 1, 1) := dk_43 (dk_at dksX0_copies_1 8 rfl rfl)
theorem dX0_copies_31 : decode cX0_copies 31 = .ok (.bipush 12, 2) := dk_16 12 (dk_at dksX0_copies_1 9 rfl rfl)
theorem dX0_copies_33 : decode cX0_copies 33 = .ok (.bipush 6, 2) := dk_16 6 (dk_at dksX0_copies_1 11 rfl rfl)
theorem dX0_copies_35 : decode cX0_copies 35 = .ok (.invokestatic 234, 3) := dk_184 0 234 (dk_at dksX0_copies_1 13 rfl rfl)
theorem dX0_copies_38 : decode cX0_copies 38 = .ok (.aload_n 1, 1) := dk_43 (dk_at dksX0_copies_1 16 rfl rfl)
theorem dX0_copies_39 : decode cX0_copies 39 = .ok (.bipush 18, 2) := dk_16 18 (dk_at dksX0_copies_1 17 rfl rfl)
theorem dX0_copies_41 : decode cX0_copies 41 = .ok (.aload_n 0, 1) := dk_42 (dk_at dksX0_copies_1 19 rfl rfl)
theorem dX0_copies_42 : decode cX0_copies 42 = .ok (.getfield 90, 3) := dk_180 0 90 (dk_at dksX0_copies_1 20 rfl rfl)
theorem dX0_copies_45 : decode cX0_copies 45 = .ok (.iastore, 1) := dk_79 (dk_at dksX0_copies_1 23 rfl rfl)
theorem dX0_copies_46 : decode cX0_copies 46 = .ok (.aload_n 1, 1) := dk_43 (dk_at dksX0_copies_2 0 rfl rfl)
theorem dX0_copies_47 : decode cX0_copies 47 = .ok (.bipush 19, 2) := dk_16 19 (dk_at dksX0_copies_2 1 rfl rfl)
theorem dX0_copies_49 : decode cX0_copies 49 = .ok (.aload_n 0, 1) := dk_42 (dk_at dksX0_copies_2 3 rfl rfl)
theorem dX0_copies_50 : decode cX0_copies 50 = .ok (.getfield 99, 3) := dk_180 0 99 (dk_at dksX0_copies_2 4 rfl rfl)
theorem dX0_copies_53 : decode cX0_copies 53 = .ok (.iastore, 1) := dk_79 (dk_at dksX0_copies_2 7 rfl rfl)
theorem dX0_copies_54 : decode cX0_copies 54 = .ok (.return_, 1) := dk_177 (dk_at dksX0_copies_2 8 rfl rfl)
abbrev cX0_copiesBack : ByteArray := prog_1_method_29_code
def yX0_copiesBack : MethodName := ⟨RX0, "copiesBack", "([I)V"⟩
def dkwX0_copiesBack_2 : List UInt8 := [42, 43, 16, 19, 46, 181, 0, 99, 177]
abbrev dktX0_copiesBack_2 : List UInt8 := dkwX0_copiesBack_2 ++ []
def dkwX0_copiesBack_1 : List UInt8 := [184, 0, 234, 43, 16, 12, 42, 180, 0, 35, 3, 16, 6, 184, 0, 234, 42, 43, 16, 18, 46, 181, 0, 90]
abbrev dktX0_copiesBack_1 : List UInt8 := dkwX0_copiesBack_1 ++ dktX0_copiesBack_2
def dkwX0_copiesBack_0 : List UInt8 := [43, 3, 42, 180, 0, 29, 3, 16, 6, 184, 0, 234, 43, 16, 6, 42, 180, 0, 32, 3, 16, 6]
abbrev dktX0_copiesBack_0 : List UInt8 := dkwX0_copiesBack_0 ++ dktX0_copiesBack_1
theorem dksX0_copiesBack_0 : cX0_copiesBack.data.toList.drop 0 = dktX0_copiesBack_0 := by decide +kernel
theorem dksX0_copiesBack_1 : cX0_copiesBack.data.toList.drop 22 = dktX0_copiesBack_1 := dk_seg dksX0_copiesBack_0 22 rfl rfl
theorem dksX0_copiesBack_2 : cX0_copiesBack.data.toList.drop 46 = dktX0_copiesBack_2 := dk_seg dksX0_copiesBack_1 24 rfl rfl
theorem dX0_copiesBack_0 : decode cX0_copiesBack 0 = .ok (.aload_n 1, 1) := dk_43 (dk_at dksX0_copiesBack_0 0 rfl rfl)
theorem dX0_copiesBack_1 : decode cX0_copiesBack 1 = .ok (.iconst 0, 1) := dk_3 (dk_at dksX0_copiesBack_0 1 rfl rfl)
theorem dX0_copiesBack_2 : decode cX0_copiesBack 2 = .ok (.aload_n 0, 1) := dk_42 (dk_at dksX0_copiesBack_0 2 rfl rfl)
theorem dX0_copiesBack_3 : decode cX0_copiesBack 3 = .ok (.getfield 29, 3) := dk_180 0 29 (dk_at dksX0_copiesBack_0 3 rfl rfl)
theorem dX0_copiesBack_6 : decode cX0_copiesBack 6 = .ok (.iconst 0, 1) := dk_3 (dk_at dksX0_copiesBack_0 6 rfl rfl)
theorem dX0_copiesBack_7 : decode cX0_copiesBack 7 = .ok (.bipush 6, 2) := dk_16 6 (dk_at dksX0_copiesBack_0 7 rfl rfl)
theorem dX0_copiesBack_9 : decode cX0_copiesBack 9 = .ok (.invokestatic 234, 3) := dk_184 0 234 (dk_at dksX0_copiesBack_0 9 rfl rfl)
theorem dX0_copiesBack_12 : decode cX0_copiesBack 12 = .ok (.aload_n 1, 1) := dk_43 (dk_at dksX0_copiesBack_0 12 rfl rfl)
theorem dX0_copiesBack_13 : decode cX0_copiesBack 13 = .ok (.bipush 6, 2) := dk_16 6 (dk_at dksX0_copiesBack_0 13 rfl rfl)
theorem dX0_copiesBack_15 : decode cX0_copiesBack 15 = .ok (.aload_n 0, 1) := dk_42 (dk_at dksX0_copiesBack_0 15 rfl rfl)
theorem dX0_copiesBack_16 : decode cX0_copiesBack 16 = .ok (.getfield 32, 3) := dk_180 0 32 (dk_at dksX0_copiesBack_0 16 rfl rfl)
theorem dX0_copiesBack_19 : decode cX0_copiesBack 19 = .ok (.iconst 0, 1) := dk_3 (dk_at dksX0_copiesBack_0 19 rfl rfl)
theorem dX0_copiesBack_20 : decode cX0_copiesBack 20 = .ok (.bipush 6, 2) := dk_16 6 (dk_at dksX0_copiesBack_0 20 rfl rfl)
theorem dX0_copiesBack_22 : decode cX0_copiesBack 22 = .ok (.invokestatic 234, 3) := dk_184 0 234 (dk_at dksX0_copiesBack_1 0 rfl rfl)
theorem dX0_copiesBack_25 : decode cX0_copiesBack 25 = .ok (.aload_n 1, 1) := dk_43 (dk_at dksX0_copiesBack_1 3 rfl rfl)
theorem dX0_copiesBack_26 : decode cX0_copiesBack 26 = .ok (.bipush 12, 2) := dk_16 12 (dk_at dksX0_copiesBack_1 4 rfl rfl)
theorem dX0_copiesBack_28 : decode cX0_copiesBack 28 = .ok (.aload_n 0, 1) := dk_42 (dk_at dksX0_copiesBack_1 6 rfl rfl)
theorem dX0_copiesBack_29 : decode cX0_copiesBack 29 = .ok (.getfield 35, 3) := dk_180 0 35 (dk_at dksX0_copiesBack_1 7 rfl rfl)
theorem dX0_copiesBack_32 : decode cX0_copiesBack 32 = .ok (.iconst 0, 1) := dk_3 (dk_at dksX0_copiesBack_1 10 rfl rfl)
theorem dX0_copiesBack_33 : decode cX0_copiesBack 33 = .ok (.bipush 6, 2) := dk_16 6 (dk_at dksX0_copiesBack_1 11 rfl rfl)
theorem dX0_copiesBack_35 : decode cX0_copiesBack 35 = .ok (.invokestatic 234, 3) := dk_184 0 234 (dk_at dksX0_copiesBack_1 13 rfl rfl)
theorem dX0_copiesBack_38 : decode cX0_copiesBack 38 = .ok (.aload_n 0, 1) := dk_42 (dk_at dksX0_copiesBack_1 16 rfl rfl)
theorem dX0_copiesBack_39 : decode cX0_copiesBack 39 = .ok (.aload_n 1, 1) := dk_43 (dk_at dksX0_copiesBack_1 17 rfl rfl)
theorem dX0_copiesBack_40 : decode cX0_copiesBack 40 = .ok (.bipush 18, 2) := dk_16 18 (dk_at dksX0_copiesBack_1 18 rfl rfl)
theorem dX0_copiesBack_42 : decode cX0_copiesBack 42 = .ok (.iaload, 1) := dk_46 (dk_at dksX0_copiesBack_1 20 rfl rfl)
theorem dX0_copiesBack_43 : decode cX0_copiesBack 43 = .ok (.putfield 90, 3) := dk_181 0 90 (dk_at dksX0_copiesBack_1 21 rfl rfl)
theorem dX0_copiesBack_46 : decode cX0_copiesBack 46 = .ok (.aload_n 0, 1) := dk_42 (dk_at dksX0_copiesBack_2 0 rfl rfl)
theorem dX0_copiesBack_47 : decode cX0_copiesBack 47 = .ok (.aload_n 1, 1) := dk_43 (dk_at dksX0_copiesBack_2 1 rfl rfl)
theorem dX0_copiesBack_48 : decode cX0_copiesBack 48 = .ok (.bipush 19, 2) := dk_16 19 (dk_at dksX0_copiesBack_2 2 rfl rfl)
theorem dX0_copiesBack_50 : decode cX0_copiesBack 50 = .ok (.iaload, 1) := dk_46 (dk_at dksX0_copiesBack_2 4 rfl rfl)
theorem dX0_copiesBack_51 : decode cX0_copiesBack 51 = .ok (.putfield 99, 3) := dk_181 0 99 (dk_at dksX0_copiesBack_2 5 rfl rfl)
theorem dX0_copiesBack_54 : decode cX0_copiesBack 54 = .ok (.return_, 1) := dk_177 (dk_at dksX0_copiesBack_2 8 rfl rfl)
abbrev cX0_fish : ByteArray := prog_1_method_34_code
def yX0_fish : MethodName := ⟨RX0, "fish", "(II)I"⟩
def dkwX0_fish_4 : List UInt8 := [180, 0, 29, 28, 46, 184, 0, 93, 172]
abbrev dktX0_fish_4 : List UInt8 := dkwX0_fish_4 ++ []
def dkwX0_fish_3 : List UInt8 := [180, 0, 254, 21, 4, 46, 182, 0, 211, 87, 42, 182, 0, 231, 87, 132, 4, 1, 167, 255, 216, 42]
abbrev dktX0_fish_3 : List UInt8 := dkwX0_fish_3 ++ dktX0_fish_4
def dkwX0_fish_2 : List UInt8 := [54, 4, 21, 4, 42, 180, 0, 73, 27, 50, 180, 0, 252, 162, 0, 32, 42, 28, 42, 180, 0, 73, 27, 50]
abbrev dktX0_fish_2 : List UInt8 := dkwX0_fish_2 ++ dktX0_fish_3
def dkwX0_fish_1 : List UInt8 := [180, 0, 99, 42, 180, 0, 73, 27, 50, 180, 0, 252, 96, 17, 3, 231, 164, 0, 6, 16, 253, 172, 3]
abbrev dktX0_fish_1 : List UInt8 := dkwX0_fish_1 ++ dktX0_fish_2
def dkwX0_fish_0 : List UInt8 := [42, 27, 182, 1, 1, 62, 29, 153, 0, 5, 29, 172, 42, 28, 182, 0, 137, 154, 0, 6, 16, 251, 172, 42]
abbrev dktX0_fish_0 : List UInt8 := dkwX0_fish_0 ++ dktX0_fish_1
theorem dksX0_fish_0 : cX0_fish.data.toList.drop 0 = dktX0_fish_0 := by decide +kernel
theorem dksX0_fish_1 : cX0_fish.data.toList.drop 24 = dktX0_fish_1 := dk_seg dksX0_fish_0 24 rfl rfl
theorem dksX0_fish_2 : cX0_fish.data.toList.drop 47 = dktX0_fish_2 := dk_seg dksX0_fish_1 23 rfl rfl
theorem dksX0_fish_3 : cX0_fish.data.toList.drop 71 = dktX0_fish_3 := dk_seg dksX0_fish_2 24 rfl rfl
theorem dksX0_fish_4 : cX0_fish.data.toList.drop 93 = dktX0_fish_4 := dk_seg dksX0_fish_3 22 rfl rfl
theorem dX0_fish_0 : decode cX0_fish 0 = .ok (.aload_n 0, 1) := dk_42 (dk_at dksX0_fish_0 0 rfl rfl)
theorem dX0_fish_1 : decode cX0_fish 1 = .ok (.iload_n 1, 1) := dk_27 (dk_at dksX0_fish_0 1 rfl rfl)
theorem dX0_fish_2 : decode cX0_fish 2 = .ok (.invokevirtual 257, 3) := dk_182 1 1 (dk_at dksX0_fish_0 2 rfl rfl)
theorem dX0_fish_5 : decode cX0_fish 5 = .ok (.istore_n 3, 1) := dk_62 (dk_at dksX0_fish_0 5 rfl rfl)
theorem dX0_fish_6 : decode cX0_fish 6 = .ok (.iload_n 3, 1) := dk_29 (dk_at dksX0_fish_0 6 rfl rfl)
theorem dX0_fish_7 : decode cX0_fish 7 = .ok (.ifCond .eq 5, 3) := dk_153 0 5 (dk_at dksX0_fish_0 7 rfl rfl)
theorem dX0_fish_10 : decode cX0_fish 10 = .ok (.iload_n 3, 1) := dk_29 (dk_at dksX0_fish_0 10 rfl rfl)
theorem dX0_fish_11 : decode cX0_fish 11 = .ok (.ireturn, 1) := dk_172 (dk_at dksX0_fish_0 11 rfl rfl)
theorem dX0_fish_12 : decode cX0_fish 12 = .ok (.aload_n 0, 1) := dk_42 (dk_at dksX0_fish_0 12 rfl rfl)
theorem dX0_fish_13 : decode cX0_fish 13 = .ok (.iload_n 2, 1) := dk_28 (dk_at dksX0_fish_0 13 rfl rfl)
theorem dX0_fish_14 : decode cX0_fish 14 = .ok (.invokevirtual 137, 3) := dk_182 0 137 (dk_at dksX0_fish_0 14 rfl rfl)
theorem dX0_fish_17 : decode cX0_fish 17 = .ok (.ifCond .ne 6, 3) := dk_154 0 6 (dk_at dksX0_fish_0 17 rfl rfl)
theorem dX0_fish_20 : decode cX0_fish 20 = .ok (.bipush (-5), 2) := dk_16 251 (dk_at dksX0_fish_0 20 rfl rfl)
theorem dX0_fish_22 : decode cX0_fish 22 = .ok (.ireturn, 1) := dk_172 (dk_at dksX0_fish_0 22 rfl rfl)
theorem dX0_fish_23 : decode cX0_fish 23 = .ok (.aload_n 0, 1) := dk_42 (dk_at dksX0_fish_0 23 rfl rfl)
theorem dX0_fish_24 : decode cX0_fish 24 = .ok (.getfield 99, 3) := dk_180 0 99 (dk_at dksX0_fish_1 0 rfl rfl)
theorem dX0_fish_27 : decode cX0_fish 27 = .ok (.aload_n 0, 1) := dk_42 (dk_at dksX0_fish_1 3 rfl rfl)
theorem dX0_fish_28 : decode cX0_fish 28 = .ok (.getfield 73, 3) := dk_180 0 73 (dk_at dksX0_fish_1 4 rfl rfl)
theorem dX0_fish_31 : decode cX0_fish 31 = .ok (.iload_n 1, 1) := dk_27 (dk_at dksX0_fish_1 7 rfl rfl)
theorem dX0_fish_32 : decode cX0_fish 32 = .ok (.aaload, 1) := dk_50 (dk_at dksX0_fish_1 8 rfl rfl)
theorem dX0_fish_33 : decode cX0_fish 33 = .ok (.getfield 252, 3) := dk_180 0 252 (dk_at dksX0_fish_1 9 rfl rfl)
theorem dX0_fish_36 : decode cX0_fish 36 = .ok (.iadd, 1) := dk_96 (dk_at dksX0_fish_1 12 rfl rfl)
theorem dX0_fish_37 : decode cX0_fish 37 = .ok (.sipush 999, 3) := dk_17 3 231 (dk_at dksX0_fish_1 13 rfl rfl)
theorem dX0_fish_40 : decode cX0_fish 40 = .ok (.if_icmp .le 6, 3) := dk_164 0 6 (dk_at dksX0_fish_1 16 rfl rfl)
theorem dX0_fish_43 : decode cX0_fish 43 = .ok (.bipush (-3), 2) := dk_16 253 (dk_at dksX0_fish_1 19 rfl rfl)
theorem dX0_fish_45 : decode cX0_fish 45 = .ok (.ireturn, 1) := dk_172 (dk_at dksX0_fish_1 21 rfl rfl)
theorem dX0_fish_46 : decode cX0_fish 46 = .ok (.iconst 0, 1) := dk_3 (dk_at dksX0_fish_1 22 rfl rfl)
theorem dX0_fish_47 : decode cX0_fish 47 = .ok (.istore 4, 2) := dk_54 4 (dk_at dksX0_fish_2 0 rfl rfl)
theorem dX0_fish_49 : decode cX0_fish 49 = .ok (.iload 4, 2) := dk_21 4 (dk_at dksX0_fish_2 2 rfl rfl)
theorem dX0_fish_51 : decode cX0_fish 51 = .ok (.aload_n 0, 1) := dk_42 (dk_at dksX0_fish_2 4 rfl rfl)
theorem dX0_fish_52 : decode cX0_fish 52 = .ok (.getfield 73, 3) := dk_180 0 73 (dk_at dksX0_fish_2 5 rfl rfl)
theorem dX0_fish_55 : decode cX0_fish 55 = .ok (.iload_n 1, 1) := dk_27 (dk_at dksX0_fish_2 8 rfl rfl)
theorem dX0_fish_56 : decode cX0_fish 56 = .ok (.aaload, 1) := dk_50 (dk_at dksX0_fish_2 9 rfl rfl)
theorem dX0_fish_57 : decode cX0_fish 57 = .ok (.getfield 252, 3) := dk_180 0 252 (dk_at dksX0_fish_2 10 rfl rfl)
theorem dX0_fish_60 : decode cX0_fish 60 = .ok (.if_icmp .ge 32, 3) := dk_162 0 32 (dk_at dksX0_fish_2 13 rfl rfl)
theorem dX0_fish_63 : decode cX0_fish 63 = .ok (.aload_n 0, 1) := dk_42 (dk_at dksX0_fish_2 16 rfl rfl)
theorem dX0_fish_64 : decode cX0_fish 64 = .ok (.iload_n 2, 1) := dk_28 (dk_at dksX0_fish_2 17 rfl rfl)
theorem dX0_fish_65 : decode cX0_fish 65 = .ok (.aload_n 0, 1) := dk_42 (dk_at dksX0_fish_2 18 rfl rfl)
theorem dX0_fish_66 : decode cX0_fish 66 = .ok (.getfield 73, 3) := dk_180 0 73 (dk_at dksX0_fish_2 19 rfl rfl)
theorem dX0_fish_69 : decode cX0_fish 69 = .ok (.iload_n 1, 1) := dk_27 (dk_at dksX0_fish_2 22 rfl rfl)
theorem dX0_fish_70 : decode cX0_fish 70 = .ok (.aaload, 1) := dk_50 (dk_at dksX0_fish_2 23 rfl rfl)
theorem dX0_fish_71 : decode cX0_fish 71 = .ok (.getfield 254, 3) := dk_180 0 254 (dk_at dksX0_fish_3 0 rfl rfl)
theorem dX0_fish_74 : decode cX0_fish 74 = .ok (.iload 4, 2) := dk_21 4 (dk_at dksX0_fish_3 3 rfl rfl)
theorem dX0_fish_76 : decode cX0_fish 76 = .ok (.iaload, 1) := dk_46 (dk_at dksX0_fish_3 5 rfl rfl)
theorem dX0_fish_77 : decode cX0_fish 77 = .ok (.invokevirtual 211, 3) := dk_182 0 211 (dk_at dksX0_fish_3 6 rfl rfl)
theorem dX0_fish_80 : decode cX0_fish 80 = .ok (.pop, 1) := dk_87 (dk_at dksX0_fish_3 9 rfl rfl)
theorem dX0_fish_81 : decode cX0_fish 81 = .ok (.aload_n 0, 1) := dk_42 (dk_at dksX0_fish_3 10 rfl rfl)
theorem dX0_fish_82 : decode cX0_fish 82 = .ok (.invokevirtual 231, 3) := dk_182 0 231 (dk_at dksX0_fish_3 11 rfl rfl)
theorem dX0_fish_85 : decode cX0_fish 85 = .ok (.pop, 1) := dk_87 (dk_at dksX0_fish_3 14 rfl rfl)
theorem dX0_fish_86 : decode cX0_fish 86 = .ok (.iinc 4 1, 3) := dk_132 4 1 (dk_at dksX0_fish_3 15 rfl rfl)
theorem dX0_fish_89 : decode cX0_fish 89 = .ok (.goto (-40), 3) := dk_167 255 216 (dk_at dksX0_fish_3 18 rfl rfl)
theorem dX0_fish_92 : decode cX0_fish 92 = .ok (.aload_n 0, 1) := dk_42 (dk_at dksX0_fish_3 21 rfl rfl)
theorem dX0_fish_93 : decode cX0_fish 93 = .ok (.getfield 29, 3) := dk_180 0 29 (dk_at dksX0_fish_4 0 rfl rfl)
theorem dX0_fish_96 : decode cX0_fish 96 = .ok (.iload_n 2, 1) := dk_28 (dk_at dksX0_fish_4 3 rfl rfl)
theorem dX0_fish_97 : decode cX0_fish 97 = .ok (.iaload, 1) := dk_46 (dk_at dksX0_fish_4 4 rfl rfl)
theorem dX0_fish_98 : decode cX0_fish 98 = .ok (.invokestatic 93, 3) := dk_184 0 93 (dk_at dksX0_fish_4 5 rfl rfl)
theorem dX0_fish_101 : decode cX0_fish 101 = .ok (.ireturn, 1) := dk_172 (dk_at dksX0_fish_4 8 rfl rfl)
abbrev cX0_which : ByteArray := prog_1_method_35_code
def yX0_which : MethodName := ⟨RX0, "which", "(II)I"⟩
def dkwX0_which_5 : List UInt8 := [167, 255, 182, 28, 154, 0, 7, 29, 167, 0, 5, 21, 4, 172]
abbrev dktX0_which_5 : List UInt8 := dkwX0_which_5 ++ []
def dkwX0_which_4 : List UInt8 := [2, 159, 0, 13, 21, 6, 21, 4, 163, 0, 6, 167, 0, 10, 21, 5, 62, 21, 6, 54, 4, 132, 5, 1]
abbrev dktX0_which_4 : List UInt8 := dkwX0_which_4 ++ dktX0_which_5
def dkwX0_which_3 : List UInt8 := [27, 21, 5, 182, 0, 211, 87, 42, 180, 0, 35, 27, 46, 54, 6, 42, 42, 180, 0, 41, 182, 1, 10, 29]
abbrev dktX0_which_3 : List UInt8 := dkwX0_which_3 ++ dktX0_which_4
def dkwX0_which_2 : List UInt8 := [16, 16, 162, 0, 73, 42, 180, 0, 32, 27, 46, 21, 5, 122, 4, 126, 4, 160, 0, 6, 167, 0, 49, 42]
abbrev dktX0_which_2 : List UInt8 := dkwX0_which_2 ++ dktX0_which_3
def dkwX0_which_1 : List UInt8 := [2, 62, 42, 180, 0, 35, 27, 46, 54, 4, 42, 42, 180, 0, 41, 182, 1, 6, 3, 54, 5, 21, 5]
abbrev dktX0_which_1 : List UInt8 := dkwX0_which_1 ++ dktX0_which_2
def dkwX0_which_0 : List UInt8 := [42, 27, 182, 0, 137, 154, 0, 6, 16, 251, 172, 28, 133, 9, 10, 184, 0, 108, 154, 0, 6, 16, 249, 172]
abbrev dktX0_which_0 : List UInt8 := dkwX0_which_0 ++ dktX0_which_1
theorem dksX0_which_0 : cX0_which.data.toList.drop 0 = dktX0_which_0 := by decide +kernel
theorem dksX0_which_1 : cX0_which.data.toList.drop 24 = dktX0_which_1 := dk_seg dksX0_which_0 24 rfl rfl
theorem dksX0_which_2 : cX0_which.data.toList.drop 47 = dktX0_which_2 := dk_seg dksX0_which_1 23 rfl rfl
theorem dksX0_which_3 : cX0_which.data.toList.drop 71 = dktX0_which_3 := dk_seg dksX0_which_2 24 rfl rfl
theorem dksX0_which_4 : cX0_which.data.toList.drop 95 = dktX0_which_4 := dk_seg dksX0_which_3 24 rfl rfl
theorem dksX0_which_5 : cX0_which.data.toList.drop 119 = dktX0_which_5 := dk_seg dksX0_which_4 24 rfl rfl
theorem dX0_which_0 : decode cX0_which 0 = .ok (.aload_n 0, 1) := dk_42 (dk_at dksX0_which_0 0 rfl rfl)
theorem dX0_which_1 : decode cX0_which 1 = .ok (.iload_n 1, 1) := dk_27 (dk_at dksX0_which_0 1 rfl rfl)
theorem dX0_which_2 : decode cX0_which 2 = .ok (.invokevirtual 137, 3) := dk_182 0 137 (dk_at dksX0_which_0 2 rfl rfl)
theorem dX0_which_5 : decode cX0_which 5 = .ok (.ifCond .ne 6, 3) := dk_154 0 6 (dk_at dksX0_which_0 5 rfl rfl)
theorem dX0_which_8 : decode cX0_which 8 = .ok (.bipush (-5), 2) := dk_16 251 (dk_at dksX0_which_0 8 rfl rfl)
theorem dX0_which_10 : decode cX0_which 10 = .ok (.ireturn, 1) := dk_172 (dk_at dksX0_which_0 10 rfl rfl)
theorem dX0_which_11 : decode cX0_which 11 = .ok (.iload_n 2, 1) := dk_28 (dk_at dksX0_which_0 11 rfl rfl)
theorem dX0_which_12 : decode cX0_which 12 = .ok (.i2l, 1) := dk_133 (dk_at dksX0_which_0 12 rfl rfl)
theorem dX0_which_13 : decode cX0_which 13 = .ok (.lconst 0, 1) := dk_9 (dk_at dksX0_which_0 13 rfl rfl)
theorem dX0_which_14 : decode cX0_which 14 = .ok (.lconst 1, 1) := dk_10 (dk_at dksX0_which_0 14 rfl rfl)
theorem dX0_which_15 : decode cX0_which 15 = .ok (.invokestatic 108, 3) := dk_184 0 108 (dk_at dksX0_which_0 15 rfl rfl)
theorem dX0_which_18 : decode cX0_which 18 = .ok (.ifCond .ne 6, 3) := dk_154 0 6 (dk_at dksX0_which_0 18 rfl rfl)
theorem dX0_which_21 : decode cX0_which 21 = .ok (.bipush (-7), 2) := dk_16 249 (dk_at dksX0_which_0 21 rfl rfl)
theorem dX0_which_23 : decode cX0_which 23 = .ok (.ireturn, 1) := dk_172 (dk_at dksX0_which_0 23 rfl rfl)
theorem dX0_which_24 : decode cX0_which 24 = .ok (.iconst (-1), 1) := dk_2 (dk_at dksX0_which_1 0 rfl rfl)
theorem dX0_which_25 : decode cX0_which 25 = .ok (.istore_n 3, 1) := dk_62 (dk_at dksX0_which_1 1 rfl rfl)
theorem dX0_which_26 : decode cX0_which 26 = .ok (.aload_n 0, 1) := dk_42 (dk_at dksX0_which_1 2 rfl rfl)
theorem dX0_which_27 : decode cX0_which 27 = .ok (.getfield 35, 3) := dk_180 0 35 (dk_at dksX0_which_1 3 rfl rfl)
theorem dX0_which_30 : decode cX0_which 30 = .ok (.iload_n 1, 1) := dk_27 (dk_at dksX0_which_1 6 rfl rfl)
theorem dX0_which_31 : decode cX0_which 31 = .ok (.iaload, 1) := dk_46 (dk_at dksX0_which_1 7 rfl rfl)
theorem dX0_which_32 : decode cX0_which 32 = .ok (.istore 4, 2) := dk_54 4 (dk_at dksX0_which_1 8 rfl rfl)
theorem dX0_which_34 : decode cX0_which 34 = .ok (.aload_n 0, 1) := dk_42 (dk_at dksX0_which_1 10 rfl rfl)
theorem dX0_which_35 : decode cX0_which 35 = .ok (.aload_n 0, 1) := dk_42 (dk_at dksX0_which_1 11 rfl rfl)
theorem dX0_which_36 : decode cX0_which 36 = .ok (.getfield 41, 3) := dk_180 0 41 (dk_at dksX0_which_1 12 rfl rfl)
theorem dX0_which_39 : decode cX0_which 39 = .ok (.invokevirtual 262, 3) := dk_182 1 6 (dk_at dksX0_which_1 15 rfl rfl)
theorem dX0_which_42 : decode cX0_which 42 = .ok (.iconst 0, 1) := dk_3 (dk_at dksX0_which_1 18 rfl rfl)
theorem dX0_which_43 : decode cX0_which 43 = .ok (.istore 5, 2) := dk_54 5 (dk_at dksX0_which_1 19 rfl rfl)
theorem dX0_which_45 : decode cX0_which 45 = .ok (.iload 5, 2) := dk_21 5 (dk_at dksX0_which_1 21 rfl rfl)
theorem dX0_which_47 : decode cX0_which 47 = .ok (.bipush 16, 2) := dk_16 16 (dk_at dksX0_which_2 0 rfl rfl)
theorem dX0_which_49 : decode cX0_which 49 = .ok (.if_icmp .ge 73, 3) := dk_162 0 73 (dk_at dksX0_which_2 2 rfl rfl)
theorem dX0_which_52 : decode cX0_which 52 = .ok (.aload_n 0, 1) := dk_42 (dk_at dksX0_which_2 5 rfl rfl)
theorem dX0_which_53 : decode cX0_which 53 = .ok (.getfield 32, 3) := dk_180 0 32 (dk_at dksX0_which_2 6 rfl rfl)
theorem dX0_which_56 : decode cX0_which 56 = .ok (.iload_n 1, 1) := dk_27 (dk_at dksX0_which_2 9 rfl rfl)
theorem dX0_which_57 : decode cX0_which 57 = .ok (.iaload, 1) := dk_46 (dk_at dksX0_which_2 10 rfl rfl)
theorem dX0_which_58 : decode cX0_which 58 = .ok (.iload 5, 2) := dk_21 5 (dk_at dksX0_which_2 11 rfl rfl)
theorem dX0_which_60 : decode cX0_which 60 = .ok (.ishr, 1) := dk_122 (dk_at dksX0_which_2 13 rfl rfl)
theorem dX0_which_61 : decode cX0_which 61 = .ok (.iconst 1, 1) := dk_4 (dk_at dksX0_which_2 14 rfl rfl)
theorem dX0_which_62 : decode cX0_which 62 = .ok (.iand, 1) := dk_126 (dk_at dksX0_which_2 15 rfl rfl)
theorem dX0_which_63 : decode cX0_which 63 = .ok (.iconst 1, 1) := dk_4 (dk_at dksX0_which_2 16 rfl rfl)
theorem dX0_which_64 : decode cX0_which 64 = .ok (.if_icmp .ne 6, 3) := dk_160 0 6 (dk_at dksX0_which_2 17 rfl rfl)
theorem dX0_which_67 : decode cX0_which 67 = .ok (.goto 49, 3) := dk_167 0 49 (dk_at dksX0_which_2 20 rfl rfl)
theorem dX0_which_70 : decode cX0_which 70 = .ok (.aload_n 0, 1) := dk_42 (dk_at dksX0_which_2 23 rfl rfl)
theorem dX0_which_71 : decode cX0_which 71 = .ok (.iload_n 1, 1) := dk_27 (dk_at dksX0_which_3 0 rfl rfl)
theorem dX0_which_72 : decode cX0_which 72 = .ok (.iload 5, 2) := dk_21 5 (dk_at dksX0_which_3 1 rfl rfl)
theorem dX0_which_74 : decode cX0_which 74 = .ok (.invokevirtual 211, 3) := dk_182 0 211 (dk_at dksX0_which_3 3 rfl rfl)
theorem dX0_which_77 : decode cX0_which 77 = .ok (.pop, 1) := dk_87 (dk_at dksX0_which_3 6 rfl rfl)
theorem dX0_which_78 : decode cX0_which 78 = .ok (.aload_n 0, 1) := dk_42 (dk_at dksX0_which_3 7 rfl rfl)
theorem dX0_which_79 : decode cX0_which 79 = .ok (.getfield 35, 3) := dk_180 0 35 (dk_at dksX0_which_3 8 rfl rfl)
theorem dX0_which_82 : decode cX0_which 82 = .ok (.iload_n 1, 1) := dk_27 (dk_at dksX0_which_3 11 rfl rfl)
theorem dX0_which_83 : decode cX0_which 83 = .ok (.iaload, 1) := dk_46 (dk_at dksX0_which_3 12 rfl rfl)
theorem dX0_which_84 : decode cX0_which 84 = .ok (.istore 6, 2) := dk_54 6 (dk_at dksX0_which_3 13 rfl rfl)
theorem dX0_which_86 : decode cX0_which 86 = .ok (.aload_n 0, 1) := dk_42 (dk_at dksX0_which_3 15 rfl rfl)
theorem dX0_which_87 : decode cX0_which 87 = .ok (.aload_n 0, 1) := dk_42 (dk_at dksX0_which_3 16 rfl rfl)
theorem dX0_which_88 : decode cX0_which 88 = .ok (.getfield 41, 3) := dk_180 0 41 (dk_at dksX0_which_3 17 rfl rfl)
theorem dX0_which_91 : decode cX0_which 91 = .ok (.invokevirtual 266, 3) := dk_182 1 10 (dk_at dksX0_which_3 20 rfl rfl)
theorem dX0_which_94 : decode cX0_which 94 = .ok (.iload_n 3, 1) := dk_29 (dk_at dksX0_which_3 23 rfl rfl)
theorem dX0_which_95 : decode cX0_which 95 = .ok (.iconst (-1), 1) := dk_2 (dk_at dksX0_which_4 0 rfl rfl)
theorem dX0_which_96 : decode cX0_which 96 = .ok (.if_icmp .eq 13, 3) := dk_159 0 13 (dk_at dksX0_which_4 1 rfl rfl)
theorem dX0_which_99 : decode cX0_which 99 = .ok (.iload 6, 2) := dk_21 6 (dk_at dksX0_which_4 4 rfl rfl)
theorem dX0_which_101 : decode cX0_which 101 = .ok (.iload 4, 2) := dk_21 4 (dk_at dksX0_which_4 6 rfl rfl)
theorem dX0_which_103 : decode cX0_which 103 = .ok (.if_icmp .gt 6, 3) := dk_163 0 6 (dk_at dksX0_which_4 8 rfl rfl)
theorem dX0_which_106 : decode cX0_which 106 = .ok (.goto 10, 3) := dk_167 0 10 (dk_at dksX0_which_4 11 rfl rfl)
theorem dX0_which_109 : decode cX0_which 109 = .ok (.iload 5, 2) := dk_21 5 (dk_at dksX0_which_4 14 rfl rfl)
theorem dX0_which_111 : decode cX0_which 111 = .ok (.istore_n 3, 1) := dk_62 (dk_at dksX0_which_4 16 rfl rfl)
theorem dX0_which_112 : decode cX0_which 112 = .ok (.iload 6, 2) := dk_21 6 (dk_at dksX0_which_4 17 rfl rfl)
theorem dX0_which_114 : decode cX0_which 114 = .ok (.istore 4, 2) := dk_54 4 (dk_at dksX0_which_4 19 rfl rfl)
theorem dX0_which_116 : decode cX0_which 116 = .ok (.iinc 5 1, 3) := dk_132 5 1 (dk_at dksX0_which_4 21 rfl rfl)
theorem dX0_which_119 : decode cX0_which 119 = .ok (.goto (-74), 3) := dk_167 255 182 (dk_at dksX0_which_5 0 rfl rfl)
theorem dX0_which_122 : decode cX0_which 122 = .ok (.iload_n 2, 1) := dk_28 (dk_at dksX0_which_5 3 rfl rfl)
theorem dX0_which_123 : decode cX0_which 123 = .ok (.ifCond .ne 7, 3) := dk_154 0 7 (dk_at dksX0_which_5 4 rfl rfl)
theorem dX0_which_126 : decode cX0_which 126 = .ok (.iload_n 3, 1) := dk_29 (dk_at dksX0_which_5 7 rfl rfl)
theorem dX0_which_127 : decode cX0_which 127 = .ok (.goto 5, 3) := dk_167 0 5 (dk_at dksX0_which_5 8 rfl rfl)
theorem dX0_which_130 : decode cX0_which 130 = .ok (.iload 4, 2) := dk_21 4 (dk_at dksX0_which_5 11 rfl rfl)
theorem dX0_which_132 : decode cX0_which 132 = .ok (.ireturn, 1) := dk_172 (dk_at dksX0_which_5 13 rfl rfl)
abbrev cX0_taught : ByteArray := prog_1_method_36_code
def yX0_taught : MethodName := ⟨RX0, "taught", "(II)I"⟩
def dkwX0_taught_4 : List UInt8 := [167, 0, 5, 21, 4, 172]
abbrev dktX0_taught_4 : List UInt8 := dkwX0_taught_4 ++ []
def dkwX0_taught_3 : List UInt8 := [163, 0, 6, 167, 0, 10, 21, 5, 62, 21, 6, 54, 4, 132, 5, 1, 167, 255, 202, 28, 154, 0, 7, 29]
abbrev dktX0_taught_3 : List UInt8 := dkwX0_taught_3 ++ dktX0_taught_4
def dkwX0_taught_2 : List UInt8 := [160, 0, 7, 3, 167, 0, 13, 42, 21, 5, 27, 182, 0, 221, 184, 0, 93, 54, 6, 21, 6, 21, 4]
abbrev dktX0_taught_2 : List UInt8 := dkwX0_taught_2 ++ dktX0_taught_3
def dkwX0_taught_1 : List UInt8 := [2, 62, 3, 54, 4, 3, 54, 5, 21, 5, 42, 180, 0, 25, 182, 0, 86, 162, 0, 48, 21, 5, 27]
abbrev dktX0_taught_1 : List UInt8 := dkwX0_taught_1 ++ dktX0_taught_2
def dkwX0_taught_0 : List UInt8 := [42, 27, 182, 0, 137, 154, 0, 6, 16, 251, 172, 28, 133, 9, 10, 184, 0, 108, 154, 0, 6, 16, 249, 172]
abbrev dktX0_taught_0 : List UInt8 := dkwX0_taught_0 ++ dktX0_taught_1
theorem dksX0_taught_0 : cX0_taught.data.toList.drop 0 = dktX0_taught_0 := by decide +kernel
theorem dksX0_taught_1 : cX0_taught.data.toList.drop 24 = dktX0_taught_1 := dk_seg dksX0_taught_0 24 rfl rfl
theorem dksX0_taught_2 : cX0_taught.data.toList.drop 47 = dktX0_taught_2 := dk_seg dksX0_taught_1 23 rfl rfl
theorem dksX0_taught_3 : cX0_taught.data.toList.drop 70 = dktX0_taught_3 := dk_seg dksX0_taught_2 23 rfl rfl
theorem dksX0_taught_4 : cX0_taught.data.toList.drop 94 = dktX0_taught_4 := dk_seg dksX0_taught_3 24 rfl rfl
theorem dX0_taught_0 : decode cX0_taught 0 = .ok (.aload_n 0, 1) := dk_42 (dk_at dksX0_taught_0 0 rfl rfl)
theorem dX0_taught_1 : decode cX0_taught 1 = .ok (.iload_n 1, 1) := dk_27 (dk_at dksX0_taught_0 1 rfl rfl)
theorem dX0_taught_2 : decode cX0_taught 2 = .ok (.invokevirtual 137, 3) := dk_182 0 137 (dk_at dksX0_taught_0 2 rfl rfl)
theorem dX0_taught_5 : decode cX0_taught 5 = .ok (.ifCond .ne 6, 3) := dk_154 0 6 (dk_at dksX0_taught_0 5 rfl rfl)
theorem dX0_taught_8 : decode cX0_taught 8 = .ok (.bipush (-5), 2) := dk_16 251 (dk_at dksX0_taught_0 8 rfl rfl)
theorem dX0_taught_10 : decode cX0_taught 10 = .ok (.ireturn, 1) := dk_172 (dk_at dksX0_taught_0 10 rfl rfl)
theorem dX0_taught_11 : decode cX0_taught 11 = .ok (.iload_n 2, 1) := dk_28 (dk_at dksX0_taught_0 11 rfl rfl)
theorem dX0_taught_12 : decode cX0_taught 12 = .ok (.i2l, 1) := dk_133 (dk_at dksX0_taught_0 12 rfl rfl)
theorem dX0_taught_13 : decode cX0_taught 13 = .ok (.lconst 0, 1) := dk_9 (dk_at dksX0_taught_0 13 rfl rfl)
theorem dX0_taught_14 : decode cX0_taught 14 = .ok (.lconst 1, 1) := dk_10 (dk_at dksX0_taught_0 14 rfl rfl)
theorem dX0_taught_15 : decode cX0_taught 15 = .ok (.invokestatic 108, 3) := dk_184 0 108 (dk_at dksX0_taught_0 15 rfl rfl)
theorem dX0_taught_18 : decode cX0_taught 18 = .ok (.ifCond .ne 6, 3) := dk_154 0 6 (dk_at dksX0_taught_0 18 rfl rfl)
theorem dX0_taught_21 : decode cX0_taught 21 = .ok (.bipush (-7), 2) := dk_16 249 (dk_at dksX0_taught_0 21 rfl rfl)
theorem dX0_taught_23 : decode cX0_taught 23 = .ok (.ireturn, 1) := dk_172 (dk_at dksX0_taught_0 23 rfl rfl)
theorem dX0_taught_24 : decode cX0_taught 24 = .ok (.iconst (-1), 1) := dk_2 (dk_at dksX0_taught_1 0 rfl rfl)
theorem dX0_taught_25 : decode cX0_taught 25 = .ok (.istore_n 3, 1) := dk_62 (dk_at dksX0_taught_1 1 rfl rfl)
theorem dX0_taught_26 : decode cX0_taught 26 = .ok (.iconst 0, 1) := dk_3 (dk_at dksX0_taught_1 2 rfl rfl)
theorem dX0_taught_27 : decode cX0_taught 27 = .ok (.istore 4, 2) := dk_54 4 (dk_at dksX0_taught_1 3 rfl rfl)
theorem dX0_taught_29 : decode cX0_taught 29 = .ok (.iconst 0, 1) := dk_3 (dk_at dksX0_taught_1 5 rfl rfl)
theorem dX0_taught_30 : decode cX0_taught 30 = .ok (.istore 5, 2) := dk_54 5 (dk_at dksX0_taught_1 6 rfl rfl)
theorem dX0_taught_32 : decode cX0_taught 32 = .ok (.iload 5, 2) := dk_21 5 (dk_at dksX0_taught_1 8 rfl rfl)
theorem dX0_taught_34 : decode cX0_taught 34 = .ok (.aload_n 0, 1) := dk_42 (dk_at dksX0_taught_1 10 rfl rfl)
theorem dX0_taught_35 : decode cX0_taught 35 = .ok (.getfield 25, 3) := dk_180 0 25 (dk_at dksX0_taught_1 11 rfl rfl)
theorem dX0_taught_38 : decode cX0_taught 38 = .ok (.invokevirtual 86, 3) := dk_182 0 86 (dk_at dksX0_taught_1 14 rfl rfl)
theorem dX0_taught_41 : decode cX0_taught 41 = .ok (.if_icmp .ge 48, 3) := dk_162 0 48 (dk_at dksX0_taught_1 17 rfl rfl)
theorem dX0_taught_44 : decode cX0_taught 44 = .ok (.iload 5, 2) := dk_21 5 (dk_at dksX0_taught_1 20 rfl rfl)
theorem dX0_taught_46 : decode cX0_taught 46 = .ok (.iload_n 1, 1) := dk_27 (dk_at dksX0_taught_1 22 rfl rfl)
theorem dX0_taught_47 : decode cX0_taught 47 = .ok (.if_icmp .ne 7, 3) := dk_160 0 7 (dk_at dksX0_taught_2 0 rfl rfl)
theorem dX0_taught_50 : decode cX0_taught 50 = .ok (.iconst 0, 1) := dk_3 (dk_at dksX0_taught_2 3 rfl rfl)
theorem dX0_taught_51 : decode cX0_taught 51 = .ok (.goto 13, 3) := dk_167 0 13 (dk_at dksX0_taught_2 4 rfl rfl)
theorem dX0_taught_54 : decode cX0_taught 54 = .ok (.aload_n 0, 1) := dk_42 (dk_at dksX0_taught_2 7 rfl rfl)
theorem dX0_taught_55 : decode cX0_taught 55 = .ok (.iload 5, 2) := dk_21 5 (dk_at dksX0_taught_2 8 rfl rfl)
theorem dX0_taught_57 : decode cX0_taught 57 = .ok (.iload_n 1, 1) := dk_27 (dk_at dksX0_taught_2 10 rfl rfl)
theorem dX0_taught_58 : decode cX0_taught 58 = .ok (.invokevirtual 221, 3) := dk_182 0 221 (dk_at dksX0_taught_2 11 rfl rfl)
theorem dX0_taught_61 : decode cX0_taught 61 = .ok (.invokestatic 93, 3) := dk_184 0 93 (dk_at dksX0_taught_2 14 rfl rfl)
theorem dX0_taught_64 : decode cX0_taught 64 = .ok (.istore 6, 2) := dk_54 6 (dk_at dksX0_taught_2 17 rfl rfl)
theorem dX0_taught_66 : decode cX0_taught 66 = .ok (.iload 6, 2) := dk_21 6 (dk_at dksX0_taught_2 19 rfl rfl)
theorem dX0_taught_68 : decode cX0_taught 68 = .ok (.iload 4, 2) := dk_21 4 (dk_at dksX0_taught_2 21 rfl rfl)
theorem dX0_taught_70 : decode cX0_taught 70 = .ok (.if_icmp .gt 6, 3) := dk_163 0 6 (dk_at dksX0_taught_3 0 rfl rfl)
theorem dX0_taught_73 : decode cX0_taught 73 = .ok (.goto 10, 3) := dk_167 0 10 (dk_at dksX0_taught_3 3 rfl rfl)
theorem dX0_taught_76 : decode cX0_taught 76 = .ok (.iload 5, 2) := dk_21 5 (dk_at dksX0_taught_3 6 rfl rfl)
theorem dX0_taught_78 : decode cX0_taught 78 = .ok (.istore_n 3, 1) := dk_62 (dk_at dksX0_taught_3 8 rfl rfl)
theorem dX0_taught_79 : decode cX0_taught 79 = .ok (.iload 6, 2) := dk_21 6 (dk_at dksX0_taught_3 9 rfl rfl)
theorem dX0_taught_81 : decode cX0_taught 81 = .ok (.istore 4, 2) := dk_54 4 (dk_at dksX0_taught_3 11 rfl rfl)
theorem dX0_taught_83 : decode cX0_taught 83 = .ok (.iinc 5 1, 3) := dk_132 5 1 (dk_at dksX0_taught_3 13 rfl rfl)
theorem dX0_taught_86 : decode cX0_taught 86 = .ok (.goto (-54), 3) := dk_167 255 202 (dk_at dksX0_taught_3 16 rfl rfl)
theorem dX0_taught_89 : decode cX0_taught 89 = .ok (.iload_n 2, 1) := dk_28 (dk_at dksX0_taught_3 19 rfl rfl)
theorem dX0_taught_90 : decode cX0_taught 90 = .ok (.ifCond .ne 7, 3) := dk_154 0 7 (dk_at dksX0_taught_3 20 rfl rfl)
theorem dX0_taught_93 : decode cX0_taught 93 = .ok (.iload_n 3, 1) := dk_29 (dk_at dksX0_taught_3 23 rfl rfl)
theorem dX0_taught_94 : decode cX0_taught 94 = .ok (.goto 5, 3) := dk_167 0 5 (dk_at dksX0_taught_4 0 rfl rfl)
theorem dX0_taught_97 : decode cX0_taught 97 = .ok (.iload 4, 2) := dk_21 4 (dk_at dksX0_taught_4 3 rfl rfl)
theorem dX0_taught_99 : decode cX0_taught 99 = .ok (.ireturn, 1) := dk_172 (dk_at dksX0_taught_4 5 rfl rfl)
abbrev cX0_lessons : ByteArray := prog_1_method_38_code
def yX0_lessons : MethodName := ⟨RX0, "lessons", "(III)I"⟩
def dkwX0_lessons_3 : List UInt8 := [167, 255, 221, 2, 172]
abbrev dktX0_lessons_3 : List UInt8 := dkwX0_lessons_3 ++ []
def dkwX0_lessons_2 : List UInt8 := [182, 1, 16, 153, 0, 17, 29, 154, 0, 8, 21, 4, 167, 0, 7, 42, 180, 1, 13, 172, 132, 4, 1]
abbrev dktX0_lessons_2 : List UInt8 := dkwX0_lessons_2 ++ dktX0_lessons_3
def dkwX0_lessons_1 : List UInt8 := [184, 0, 108, 154, 0, 6, 16, 249, 172, 3, 54, 4, 21, 4, 7, 162, 0, 35, 42, 27, 28, 21, 4, 3]
abbrev dktX0_lessons_1 : List UInt8 := dkwX0_lessons_1 ++ dktX0_lessons_2
def dkwX0_lessons_0 : List UInt8 := [42, 27, 182, 0, 137, 154, 0, 6, 16, 251, 172, 28, 184, 0, 141, 153, 0, 13, 29, 133, 9, 10]
abbrev dktX0_lessons_0 : List UInt8 := dkwX0_lessons_0 ++ dktX0_lessons_1
theorem dksX0_lessons_0 : cX0_lessons.data.toList.drop 0 = dktX0_lessons_0 := by decide +kernel
theorem dksX0_lessons_1 : cX0_lessons.data.toList.drop 22 = dktX0_lessons_1 := dk_seg dksX0_lessons_0 22 rfl rfl
theorem dksX0_lessons_2 : cX0_lessons.data.toList.drop 46 = dktX0_lessons_2 := dk_seg dksX0_lessons_1 24 rfl rfl
theorem dksX0_lessons_3 : cX0_lessons.data.toList.drop 69 = dktX0_lessons_3 := dk_seg dksX0_lessons_2 23 rfl rfl
theorem dX0_lessons_0 : decode cX0_lessons 0 = .ok (.aload_n 0, 1) := dk_42 (dk_at dksX0_lessons_0 0 rfl rfl)
theorem dX0_lessons_1 : decode cX0_lessons 1 = .ok (.iload_n 1, 1) := dk_27 (dk_at dksX0_lessons_0 1 rfl rfl)
theorem dX0_lessons_2 : decode cX0_lessons 2 = .ok (.invokevirtual 137, 3) := dk_182 0 137 (dk_at dksX0_lessons_0 2 rfl rfl)
theorem dX0_lessons_5 : decode cX0_lessons 5 = .ok (.ifCond .ne 6, 3) := dk_154 0 6 (dk_at dksX0_lessons_0 5 rfl rfl)
theorem dX0_lessons_8 : decode cX0_lessons 8 = .ok (.bipush (-5), 2) := dk_16 251 (dk_at dksX0_lessons_0 8 rfl rfl)
theorem dX0_lessons_10 : decode cX0_lessons 10 = .ok (.ireturn, 1) := dk_172 (dk_at dksX0_lessons_0 10 rfl rfl)
theorem dX0_lessons_11 : decode cX0_lessons 11 = .ok (.iload_n 2, 1) := dk_28 (dk_at dksX0_lessons_0 11 rfl rfl)
theorem dX0_lessons_12 : decode cX0_lessons 12 = .ok (.invokestatic 141, 3) := dk_184 0 141 (dk_at dksX0_lessons_0 12 rfl rfl)
theorem dX0_lessons_15 : decode cX0_lessons 15 = .ok (.ifCond .eq 13, 3) := dk_153 0 13 (dk_at dksX0_lessons_0 15 rfl rfl)
theorem dX0_lessons_18 : decode cX0_lessons 18 = .ok (.iload_n 3, 1) := dk_29 (dk_at dksX0_lessons_0 18 rfl rfl)
theorem dX0_lessons_19 : decode cX0_lessons 19 = .ok (.i2l, 1) := dk_133 (dk_at dksX0_lessons_0 19 rfl rfl)
theorem dX0_lessons_20 : decode cX0_lessons 20 = .ok (.lconst 0, 1) := dk_9 (dk_at dksX0_lessons_0 20 rfl rfl)
theorem dX0_lessons_21 : decode cX0_lessons 21 = .ok (.lconst 1, 1) := dk_10 (dk_at dksX0_lessons_0 21 rfl rfl)
theorem dX0_lessons_22 : decode cX0_lessons 22 = .ok (.invokestatic 108, 3) := dk_184 0 108 (dk_at dksX0_lessons_1 0 rfl rfl)
theorem dX0_lessons_25 : decode cX0_lessons 25 = .ok (.ifCond .ne 6, 3) := dk_154 0 6 (dk_at dksX0_lessons_1 3 rfl rfl)
theorem dX0_lessons_28 : decode cX0_lessons 28 = .ok (.bipush (-7), 2) := dk_16 249 (dk_at dksX0_lessons_1 6 rfl rfl)
theorem dX0_lessons_30 : decode cX0_lessons 30 = .ok (.ireturn, 1) := dk_172 (dk_at dksX0_lessons_1 8 rfl rfl)
theorem dX0_lessons_31 : decode cX0_lessons 31 = .ok (.iconst 0, 1) := dk_3 (dk_at dksX0_lessons_1 9 rfl rfl)
theorem dX0_lessons_32 : decode cX0_lessons 32 = .ok (.istore 4, 2) := dk_54 4 (dk_at dksX0_lessons_1 10 rfl rfl)
theorem dX0_lessons_34 : decode cX0_lessons 34 = .ok (.iload 4, 2) := dk_21 4 (dk_at dksX0_lessons_1 12 rfl rfl)
theorem dX0_lessons_36 : decode cX0_lessons 36 = .ok (.iconst 4, 1) := dk_7 (dk_at dksX0_lessons_1 14 rfl rfl)
theorem dX0_lessons_37 : decode cX0_lessons 37 = .ok (.if_icmp .ge 35, 3) := dk_162 0 35 (dk_at dksX0_lessons_1 15 rfl rfl)
theorem dX0_lessons_40 : decode cX0_lessons 40 = .ok (.aload_n 0, 1) := dk_42 (dk_at dksX0_lessons_1 18 rfl rfl)
theorem dX0_lessons_41 : decode cX0_lessons 41 = .ok (.iload_n 1, 1) := dk_27 (dk_at dksX0_lessons_1 19 rfl rfl)
theorem dX0_lessons_42 : decode cX0_lessons 42 = .ok (.iload_n 2, 1) := dk_28 (dk_at dksX0_lessons_1 20 rfl rfl)
theorem dX0_lessons_43 : decode cX0_lessons 43 = .ok (.iload 4, 2) := dk_21 4 (dk_at dksX0_lessons_1 21 rfl rfl)
theorem dX0_lessons_45 : decode cX0_lessons 45 = .ok (.iconst 0, 1) := dk_3 (dk_at dksX0_lessons_1 23 rfl rfl)
theorem dX0_lessons_46 : decode cX0_lessons 46 = .ok (.invokevirtual 272, 3) := dk_182 1 16 (dk_at dksX0_lessons_2 0 rfl rfl)
theorem dX0_lessons_49 : decode cX0_lessons 49 = .ok (.ifCond .eq 17, 3) := dk_153 0 17 (dk_at dksX0_lessons_2 3 rfl rfl)
theorem dX0_lessons_52 : decode cX0_lessons 52 = .ok (.iload_n 3, 1) := dk_29 (dk_at dksX0_lessons_2 6 rfl rfl)
theorem dX0_lessons_53 : decode cX0_lessons 53 = .ok (.ifCond .ne 8, 3) := dk_154 0 8 (dk_at dksX0_lessons_2 7 rfl rfl)
theorem dX0_lessons_56 : decode cX0_lessons 56 = .ok (.iload 4, 2) := dk_21 4 (dk_at dksX0_lessons_2 10 rfl rfl)
theorem dX0_lessons_58 : decode cX0_lessons 58 = .ok (.goto 7, 3) := dk_167 0 7 (dk_at dksX0_lessons_2 12 rfl rfl)
theorem dX0_lessons_61 : decode cX0_lessons 61 = .ok (.aload_n 0, 1) := dk_42 (dk_at dksX0_lessons_2 15 rfl rfl)
theorem dX0_lessons_62 : decode cX0_lessons 62 = .ok (.getfield 269, 3) := dk_180 1 13 (dk_at dksX0_lessons_2 16 rfl rfl)
theorem dX0_lessons_65 : decode cX0_lessons 65 = .ok (.ireturn, 1) := dk_172 (dk_at dksX0_lessons_2 19 rfl rfl)
theorem dX0_lessons_66 : decode cX0_lessons 66 = .ok (.iinc 4 1, 3) := dk_132 4 1 (dk_at dksX0_lessons_2 20 rfl rfl)
theorem dX0_lessons_69 : decode cX0_lessons 69 = .ok (.goto (-35), 3) := dk_167 255 221 (dk_at dksX0_lessons_3 0 rfl rfl)
theorem dX0_lessons_72 : decode cX0_lessons 72 = .ok (.iconst (-1), 1) := dk_2 (dk_at dksX0_lessons_3 3 rfl rfl)
theorem dX0_lessons_73 : decode cX0_lessons 73 = .ok (.ireturn, 1) := dk_172 (dk_at dksX0_lessons_3 4 rfl rfl)
abbrev cX0_learns : ByteArray := prog_1_method_37_code
def yX0_learns : MethodName := ⟨RX0, "learns", "(IIII)Z"⟩
def dkwX0_learns_7 : List UInt8 := [167, 255, 173, 132, 6, 1, 167, 255, 152, 3, 172]
abbrev dktX0_learns_7 : List UInt8 := dkwX0_learns_7 ++ []
def dkwX0_learns_6 : List UInt8 := [96, 4, 96, 182, 1, 16, 54, 8, 42, 25, 5, 182, 1, 10, 21, 8, 153, 0, 5, 4, 172, 132, 7, 1]
abbrev dktX0_learns_6 : List UInt8 := dkwX0_learns_6 ++ dktX0_learns_7
def dkwX0_learns_5 : List UInt8 := [182, 0, 221, 128, 79, 42, 27, 28, 29, 4, 100, 16, 100, 21, 4, 104, 16, 10, 21, 6, 104, 96, 21, 7]
abbrev dktX0_learns_5 : List UInt8 := dkwX0_learns_5 ++ dktX0_learns_6
def dkwX0_learns_4 : List UInt8 := [21, 6, 21, 7, 160, 0, 6, 167, 0, 61, 42, 180, 0, 29, 21, 7, 92, 46, 42, 21, 6, 21, 7]
abbrev dktX0_learns_4 : List UInt8 := dkwX0_learns_4 ++ dktX0_learns_5
def dkwX0_learns_3 : List UInt8 := [180, 0, 25, 182, 0, 86, 162, 0, 98, 3, 54, 7, 21, 7, 42, 180, 0, 25, 182, 0, 86, 162, 0, 77]
abbrev dktX0_learns_3 : List UInt8 := dkwX0_learns_3 ++ dktX0_learns_4
def dkwX0_learns_2 : List UInt8 := [180, 0, 47, 167, 0, 7, 42, 180, 0, 50, 58, 5, 42, 25, 5, 182, 1, 6, 3, 54, 6, 21, 6, 42]
abbrev dktX0_learns_2 : List UInt8 := dkwX0_learns_2 ++ dktX0_learns_3
def dkwX0_learns_1 : List UInt8 := [154, 0, 5, 3, 172, 29, 4, 160, 0, 10, 42, 180, 0, 44, 167, 0, 19, 29, 5, 160, 0, 10, 42]
abbrev dktX0_learns_1 : List UInt8 := dkwX0_learns_1 ++ dktX0_learns_2
def dkwX0_learns_0 : List UInt8 := [42, 180, 0, 29, 27, 46, 28, 122, 4, 126, 4, 160, 0, 11, 42, 21, 4, 181, 1, 13, 4, 172, 29]
abbrev dktX0_learns_0 : List UInt8 := dkwX0_learns_0 ++ dktX0_learns_1
theorem dksX0_learns_0 : cX0_learns.data.toList.drop 0 = dktX0_learns_0 := by decide +kernel
theorem dksX0_learns_1 : cX0_learns.data.toList.drop 23 = dktX0_learns_1 := dk_seg dksX0_learns_0 23 rfl rfl
theorem dksX0_learns_2 : cX0_learns.data.toList.drop 46 = dktX0_learns_2 := dk_seg dksX0_learns_1 23 rfl rfl
theorem dksX0_learns_3 : cX0_learns.data.toList.drop 70 = dktX0_learns_3 := dk_seg dksX0_learns_2 24 rfl rfl
theorem dksX0_learns_4 : cX0_learns.data.toList.drop 94 = dktX0_learns_4 := dk_seg dksX0_learns_3 24 rfl rfl
theorem dksX0_learns_5 : cX0_learns.data.toList.drop 117 = dktX0_learns_5 := dk_seg dksX0_learns_4 23 rfl rfl
theorem dksX0_learns_6 : cX0_learns.data.toList.drop 141 = dktX0_learns_6 := dk_seg dksX0_learns_5 24 rfl rfl
theorem dksX0_learns_7 : cX0_learns.data.toList.drop 165 = dktX0_learns_7 := dk_seg dksX0_learns_6 24 rfl rfl
theorem dX0_learns_0 : decode cX0_learns 0 = .ok (.aload_n 0, 1) := dk_42 (dk_at dksX0_learns_0 0 rfl rfl)
theorem dX0_learns_1 : decode cX0_learns 1 = .ok (.getfield 29, 3) := dk_180 0 29 (dk_at dksX0_learns_0 1 rfl rfl)
theorem dX0_learns_4 : decode cX0_learns 4 = .ok (.iload_n 1, 1) := dk_27 (dk_at dksX0_learns_0 4 rfl rfl)
theorem dX0_learns_5 : decode cX0_learns 5 = .ok (.iaload, 1) := dk_46 (dk_at dksX0_learns_0 5 rfl rfl)
theorem dX0_learns_6 : decode cX0_learns 6 = .ok (.iload_n 2, 1) := dk_28 (dk_at dksX0_learns_0 6 rfl rfl)
theorem dX0_learns_7 : decode cX0_learns 7 = .ok (.ishr, 1) := dk_122 (dk_at dksX0_learns_0 7 rfl rfl)
theorem dX0_learns_8 : decode cX0_learns 8 = .ok (.iconst 1, 1) := dk_4 (dk_at dksX0_learns_0 8 rfl rfl)
theorem dX0_learns_9 : decode cX0_learns 9 = .ok (.iand, 1) := dk_126 (dk_at dksX0_learns_0 9 rfl rfl)
theorem dX0_learns_10 : decode cX0_learns 10 = .ok (.iconst 1, 1) := dk_4 (dk_at dksX0_learns_0 10 rfl rfl)
theorem dX0_learns_11 : decode cX0_learns 11 = .ok (.if_icmp .ne 11, 3) := dk_160 0 11 (dk_at dksX0_learns_0 11 rfl rfl)
theorem dX0_learns_14 : decode cX0_learns 14 = .ok (.aload_n 0, 1) := dk_42 (dk_at dksX0_learns_0 14 rfl rfl)
theorem dX0_learns_15 : decode cX0_learns 15 = .ok (.iload 4, 2) := dk_21 4 (dk_at dksX0_learns_0 15 rfl rfl)
theorem dX0_learns_17 : decode cX0_learns 17 = .ok (.putfield 269, 3) := dk_181 1 13 (dk_at dksX0_learns_0 17 rfl rfl)
theorem dX0_learns_20 : decode cX0_learns 20 = .ok (.iconst 1, 1) := dk_4 (dk_at dksX0_learns_0 20 rfl rfl)
theorem dX0_learns_21 : decode cX0_learns 21 = .ok (.ireturn, 1) := dk_172 (dk_at dksX0_learns_0 21 rfl rfl)
theorem dX0_learns_22 : decode cX0_learns 22 = .ok (.iload_n 3, 1) := dk_29 (dk_at dksX0_learns_0 22 rfl rfl)
theorem dX0_learns_23 : decode cX0_learns 23 = .ok (.ifCond .ne 5, 3) := dk_154 0 5 (dk_at dksX0_learns_1 0 rfl rfl)
theorem dX0_learns_26 : decode cX0_learns 26 = .ok (.iconst 0, 1) := dk_3 (dk_at dksX0_learns_1 3 rfl rfl)
theorem dX0_learns_27 : decode cX0_learns 27 = .ok (.ireturn, 1) := dk_172 (dk_at dksX0_learns_1 4 rfl rfl)
theorem dX0_learns_28 : decode cX0_learns 28 = .ok (.iload_n 3, 1) := dk_29 (dk_at dksX0_learns_1 5 rfl rfl)
theorem dX0_learns_29 : decode cX0_learns 29 = .ok (.iconst 1, 1) := dk_4 (dk_at dksX0_learns_1 6 rfl rfl)
theorem dX0_learns_30 : decode cX0_learns 30 = .ok (.if_icmp .ne 10, 3) := dk_160 0 10 (dk_at dksX0_learns_1 7 rfl rfl)
theorem dX0_learns_33 : decode cX0_learns 33 = .ok (.aload_n 0, 1) := dk_42 (dk_at dksX0_learns_1 10 rfl rfl)
theorem dX0_learns_34 : decode cX0_learns 34 = .ok (.getfield 44, 3) := dk_180 0 44 (dk_at dksX0_learns_1 11 rfl rfl)
theorem dX0_learns_37 : decode cX0_learns 37 = .ok (.goto 19, 3) := dk_167 0 19 (dk_at dksX0_learns_1 14 rfl rfl)
theorem dX0_learns_40 : decode cX0_learns 40 = .ok (.iload_n 3, 1) := dk_29 (dk_at dksX0_learns_1 17 rfl rfl)
theorem dX0_learns_41 : decode cX0_learns 41 = .ok (.iconst 2, 1) := dk_5 (dk_at dksX0_learns_1 18 rfl rfl)
theorem dX0_learns_42 : decode cX0_learns 42 = .ok (.if_icmp .ne 10, 3) := dk_160 0 10 (dk_at dksX0_learns_1 19 rfl rfl)
theorem dX0_learns_45 : decode cX0_learns 45 = .ok (.aload_n 0, 1) := dk_42 (dk_at dksX0_learns_1 22 rfl rfl)
theorem dX0_learns_46 : decode cX0_learns 46 = .ok (.getfield 47, 3) := dk_180 0 47 (dk_at dksX0_learns_2 0 rfl rfl)
theorem dX0_learns_49 : decode cX0_learns 49 = .ok (.goto 7, 3) := dk_167 0 7 (dk_at dksX0_learns_2 3 rfl rfl)
theorem dX0_learns_52 : decode cX0_learns 52 = .ok (.aload_n 0, 1) := dk_42 (dk_at dksX0_learns_2 6 rfl rfl)
theorem dX0_learns_53 : decode cX0_learns 53 = .ok (.getfield 50, 3) := dk_180 0 50 (dk_at dksX0_learns_2 7 rfl rfl)
theorem dX0_learns_56 : decode cX0_learns 56 = .ok (.astore 5, 2) := dk_58 5 (dk_at dksX0_learns_2 10 rfl rfl)
theorem dX0_learns_58 : decode cX0_learns 58 = .ok (.aload_n 0, 1) := dk_42 (dk_at dksX0_learns_2 12 rfl rfl)
theorem dX0_learns_59 : decode cX0_learns 59 = .ok (.aload 5, 2) := dk_25 5 (dk_at dksX0_learns_2 13 rfl rfl)
theorem dX0_learns_61 : decode cX0_learns 61 = .ok (.invokevirtual 262, 3) := dk_182 1 6 (dk_at dksX0_learns_2 15 rfl rfl)
theorem dX0_learns_64 : decode cX0_learns 64 = .ok (.iconst 0, 1) := dk_3 (dk_at dksX0_learns_2 18 rfl rfl)
theorem dX0_learns_65 : decode cX0_learns 65 = .ok (.istore 6, 2) := dk_54 6 (dk_at dksX0_learns_2 19 rfl rfl)
theorem dX0_learns_67 : decode cX0_learns 67 = .ok (.iload 6, 2) := dk_21 6 (dk_at dksX0_learns_2 21 rfl rfl)
theorem dX0_learns_69 : decode cX0_learns 69 = .ok (.aload_n 0, 1) := dk_42 (dk_at dksX0_learns_2 23 rfl rfl)
theorem dX0_learns_70 : decode cX0_learns 70 = .ok (.getfield 25, 3) := dk_180 0 25 (dk_at dksX0_learns_3 0 rfl rfl)
theorem dX0_learns_73 : decode cX0_learns 73 = .ok (.invokevirtual 86, 3) := dk_182 0 86 (dk_at dksX0_learns_3 3 rfl rfl)
theorem dX0_learns_76 : decode cX0_learns 76 = .ok (.if_icmp .ge 98, 3) := dk_162 0 98 (dk_at dksX0_learns_3 6 rfl rfl)
theorem dX0_learns_79 : decode cX0_learns 79 = .ok (.iconst 0, 1) := dk_3 (dk_at dksX0_learns_3 9 rfl rfl)
theorem dX0_learns_80 : decode cX0_learns 80 = .ok (.istore 7, 2) := dk_54 7 (dk_at dksX0_learns_3 10 rfl rfl)
theorem dX0_learns_82 : decode cX0_learns 82 = .ok (.iload 7, 2) := dk_21 7 (dk_at dksX0_learns_3 12 rfl rfl)
theorem dX0_learns_84 : decode cX0_learns 84 = .ok (.aload_n 0, 1) := dk_42 (dk_at dksX0_learns_3 14 rfl rfl)
theorem dX0_learns_85 : decode cX0_learns 85 = .ok (.getfield 25, 3) := dk_180 0 25 (dk_at dksX0_learns_3 15 rfl rfl)
theorem dX0_learns_88 : decode cX0_learns 88 = .ok (.invokevirtual 86, 3) := dk_182 0 86 (dk_at dksX0_learns_3 18 rfl rfl)
theorem dX0_learns_91 : decode cX0_learns 91 = .ok (.if_icmp .ge 77, 3) := dk_162 0 77 (dk_at dksX0_learns_3 21 rfl rfl)
theorem dX0_learns_94 : decode cX0_learns 94 = .ok (.iload 6, 2) := dk_21 6 (dk_at dksX0_learns_4 0 rfl rfl)
theorem dX0_learns_96 : decode cX0_learns 96 = .ok (.iload 7, 2) := dk_21 7 (dk_at dksX0_learns_4 2 rfl rfl)
theorem dX0_learns_98 : decode cX0_learns 98 = .ok (.if_icmp .ne 6, 3) := dk_160 0 6 (dk_at dksX0_learns_4 4 rfl rfl)
theorem dX0_learns_101 : decode cX0_learns 101 = .ok (.goto 61, 3) := dk_167 0 61 (dk_at dksX0_learns_4 7 rfl rfl)
theorem dX0_learns_104 : decode cX0_learns 104 = .ok (.aload_n 0, 1) := dk_42 (dk_at dksX0_learns_4 10 rfl rfl)
theorem dX0_learns_105 : decode cX0_learns 105 = .ok (.getfield 29, 3) := dk_180 0 29 (dk_at dksX0_learns_4 11 rfl rfl)
theorem dX0_learns_108 : decode cX0_learns 108 = .ok (.iload 7, 2) := dk_21 7 (dk_at dksX0_learns_4 14 rfl rfl)
theorem dX0_learns_110 : decode cX0_learns 110 = .ok (.dup2, 1) := dk_92 (dk_at dksX0_learns_4 16 rfl rfl)
theorem dX0_learns_111 : decode cX0_learns 111 = .ok (.iaload, 1) := dk_46 (dk_at dksX0_learns_4 17 rfl rfl)
theorem dX0_learns_112 : decode cX0_learns 112 = .ok (.aload_n 0, 1) := dk_42 (dk_at dksX0_learns_4 18 rfl rfl)
theorem dX0_learns_113 : decode cX0_learns 113 = .ok (.iload 6, 2) := dk_21 6 (dk_at dksX0_learns_4 19 rfl rfl)
theorem dX0_learns_115 : decode cX0_learns 115 = .ok (.iload 7, 2) := dk_21 7 (dk_at dksX0_learns_4 21 rfl rfl)
theorem dX0_learns_117 : decode cX0_learns 117 = .ok (.invokevirtual 221, 3) := dk_182 0 221 (dk_at dksX0_learns_5 0 rfl rfl)
theorem dX0_learns_120 : decode cX0_learns 120 = .ok (.ior, 1) := dk_128 (dk_at dksX0_learns_5 3 rfl rfl)
theorem dX0_learns_121 : decode cX0_learns 121 = .ok (.iastore, 1) := dk_79 (dk_at dksX0_learns_5 4 rfl rfl)
theorem dX0_learns_122 : decode cX0_learns 122 = .ok (.aload_n 0, 1) := dk_42 (dk_at dksX0_learns_5 5 rfl rfl)
theorem dX0_learns_123 : decode cX0_learns 123 = .ok (.iload_n 1, 1) := dk_27 (dk_at dksX0_learns_5 6 rfl rfl)
theorem dX0_learns_124 : decode cX0_learns 124 = .ok (.iload_n 2, 1) := dk_28 (dk_at dksX0_learns_5 7 rfl rfl)
theorem dX0_learns_125 : decode cX0_learns 125 = .ok (.iload_n 3, 1) := dk_29 (dk_at dksX0_learns_5 8 rfl rfl)
theorem dX0_learns_126 : decode cX0_learns 126 = .ok (.iconst 1, 1) := dk_4 (dk_at dksX0_learns_5 9 rfl rfl)
theorem dX0_learns_127 : decode cX0_learns 127 = .ok (.isub, 1) := dk_100 (dk_at dksX0_learns_5 10 rfl rfl)
theorem dX0_learns_128 : decode cX0_learns 128 = .ok (.bipush 100, 2) := dk_16 100 (dk_at dksX0_learns_5 11 rfl rfl)
theorem dX0_learns_130 : decode cX0_learns 130 = .ok (.iload 4, 2) := dk_21 4 (dk_at dksX0_learns_5 13 rfl rfl)
theorem dX0_learns_132 : decode cX0_learns 132 = .ok (.imul, 1) := dk_104 (dk_at dksX0_learns_5 15 rfl rfl)
theorem dX0_learns_133 : decode cX0_learns 133 = .ok (.bipush 10, 2) := dk_16 10 (dk_at dksX0_learns_5 16 rfl rfl)
theorem dX0_learns_135 : decode cX0_learns 135 = .ok (.iload 6, 2) := dk_21 6 (dk_at dksX0_learns_5 18 rfl rfl)
theorem dX0_learns_137 : decode cX0_learns 137 = .ok (.imul, 1) := dk_104 (dk_at dksX0_learns_5 20 rfl rfl)
theorem dX0_learns_138 : decode cX0_learns 138 = .ok (.iadd, 1) := dk_96 (dk_at dksX0_learns_5 21 rfl rfl)
theorem dX0_learns_139 : decode cX0_learns 139 = .ok (.iload 7, 2) := dk_21 7 (dk_at dksX0_learns_5 22 rfl rfl)
theorem dX0_learns_141 : decode cX0_learns 141 = .ok (.iadd, 1) := dk_96 (dk_at dksX0_learns_6 0 rfl rfl)
theorem dX0_learns_142 : decode cX0_learns 142 = .ok (.iconst 1, 1) := dk_4 (dk_at dksX0_learns_6 1 rfl rfl)
theorem dX0_learns_143 : decode cX0_learns 143 = .ok (.iadd, 1) := dk_96 (dk_at dksX0_learns_6 2 rfl rfl)
theorem dX0_learns_144 : decode cX0_learns 144 = .ok (.invokevirtual 272, 3) := dk_182 1 16 (dk_at dksX0_learns_6 3 rfl rfl)
theorem dX0_learns_147 : decode cX0_learns 147 = .ok (.istore 8, 2) := dk_54 8 (dk_at dksX0_learns_6 6 rfl rfl)
theorem dX0_learns_149 : decode cX0_learns 149 = .ok (.aload_n 0, 1) := dk_42 (dk_at dksX0_learns_6 8 rfl rfl)
theorem dX0_learns_150 : decode cX0_learns 150 = .ok (.aload 5, 2) := dk_25 5 (dk_at dksX0_learns_6 9 rfl rfl)
theorem dX0_learns_152 : decode cX0_learns 152 = .ok (.invokevirtual 266, 3) := dk_182 1 10 (dk_at dksX0_learns_6 11 rfl rfl)
theorem dX0_learns_155 : decode cX0_learns 155 = .ok (.iload 8, 2) := dk_21 8 (dk_at dksX0_learns_6 14 rfl rfl)
theorem dX0_learns_157 : decode cX0_learns 157 = .ok (.ifCond .eq 5, 3) := dk_153 0 5 (dk_at dksX0_learns_6 16 rfl rfl)
theorem dX0_learns_160 : decode cX0_learns 160 = .ok (.iconst 1, 1) := dk_4 (dk_at dksX0_learns_6 19 rfl rfl)
theorem dX0_learns_161 : decode cX0_learns 161 = .ok (.ireturn, 1) := dk_172 (dk_at dksX0_learns_6 20 rfl rfl)
theorem dX0_learns_162 : decode cX0_learns 162 = .ok (.iinc 7 1, 3) := dk_132 7 1 (dk_at dksX0_learns_6 21 rfl rfl)
theorem dX0_learns_165 : decode cX0_learns 165 = .ok (.goto (-83), 3) := dk_167 255 173 (dk_at dksX0_learns_7 0 rfl rfl)
theorem dX0_learns_168 : decode cX0_learns 168 = .ok (.iinc 6 1, 3) := dk_132 6 1 (dk_at dksX0_learns_7 3 rfl rfl)
theorem dX0_learns_171 : decode cX0_learns 171 = .ok (.goto (-104), 3) := dk_167 255 152 (dk_at dksX0_learns_7 6 rfl rfl)
theorem dX0_learns_174 : decode cX0_learns 174 = .ok (.iconst 0, 1) := dk_3 (dk_at dksX0_learns_7 9 rfl rfl)
theorem dX0_learns_175 : decode cX0_learns 175 = .ok (.ireturn, 1) := dk_172 (dk_at dksX0_learns_7 10 rfl rfl)
abbrev cX0_when : ByteArray := prog_1_method_39_code
def yX0_when : MethodName := ⟨RX0, "when", "(I)I"⟩
def dkwX0_when_4 : List UInt8 := [180, 0, 41, 182, 1, 10, 28, 172, 58, 4, 42, 42, 180, 0, 41, 182, 1, 10, 25, 4, 191]
abbrev dktX0_when_4 : List UInt8 := dkwX0_when_4 ++ []
def dkwX0_when_3 : List UInt8 := [42, 180, 0, 41, 182, 1, 10, 29, 172, 42, 182, 0, 231, 87, 132, 2, 1, 167, 255, 192, 2, 61, 42, 42]
abbrev dktX0_when_3 : List UInt8 := dkwX0_when_3 ++ dktX0_when_4
def dkwX0_when_2 : List UInt8 := [42, 180, 0, 25, 182, 0, 86, 120, 4, 100, 182, 0, 242, 27, 122, 4, 126, 4, 160, 0, 15, 28, 62, 42]
abbrev dktX0_when_2 : List UInt8 := dkwX0_when_2 ++ dktX0_when_3
def dkwX0_when_1 : List UInt8 := [61, 28, 16, 60, 163, 0, 64, 27, 2, 160, 0, 13, 42, 180, 0, 90, 154, 0, 41, 167, 0, 26, 42, 4]
abbrev dktX0_when_1 : List UInt8 := dkwX0_when_1 ++ dktX0_when_2
def dkwX0_when_0 : List UInt8 := [27, 2, 159, 0, 13, 27, 184, 0, 141, 154, 0, 6, 16, 254, 172, 42, 42, 180, 0, 41, 182, 1, 6, 3]
abbrev dktX0_when_0 : List UInt8 := dkwX0_when_0 ++ dktX0_when_1
theorem dksX0_when_0 : cX0_when.data.toList.drop 0 = dktX0_when_0 := by decide +kernel
theorem dksX0_when_1 : cX0_when.data.toList.drop 24 = dktX0_when_1 := dk_seg dksX0_when_0 24 rfl rfl
theorem dksX0_when_2 : cX0_when.data.toList.drop 48 = dktX0_when_2 := dk_seg dksX0_when_1 24 rfl rfl
theorem dksX0_when_3 : cX0_when.data.toList.drop 72 = dktX0_when_3 := dk_seg dksX0_when_2 24 rfl rfl
theorem dksX0_when_4 : cX0_when.data.toList.drop 96 = dktX0_when_4 := dk_seg dksX0_when_3 24 rfl rfl
theorem dX0_when_0 : decode cX0_when 0 = .ok (.iload_n 1, 1) := dk_27 (dk_at dksX0_when_0 0 rfl rfl)
theorem dX0_when_1 : decode cX0_when 1 = .ok (.iconst (-1), 1) := dk_2 (dk_at dksX0_when_0 1 rfl rfl)
theorem dX0_when_2 : decode cX0_when 2 = .ok (.if_icmp .eq 13, 3) := dk_159 0 13 (dk_at dksX0_when_0 2 rfl rfl)
theorem dX0_when_5 : decode cX0_when 5 = .ok (.iload_n 1, 1) := dk_27 (dk_at dksX0_when_0 5 rfl rfl)
theorem dX0_when_6 : decode cX0_when 6 = .ok (.invokestatic 141, 3) := dk_184 0 141 (dk_at dksX0_when_0 6 rfl rfl)
theorem dX0_when_9 : decode cX0_when 9 = .ok (.ifCond .ne 6, 3) := dk_154 0 6 (dk_at dksX0_when_0 9 rfl rfl)
theorem dX0_when_12 : decode cX0_when 12 = .ok (.bipush (-2), 2) := dk_16 254 (dk_at dksX0_when_0 12 rfl rfl)
theorem dX0_when_14 : decode cX0_when 14 = .ok (.ireturn, 1) := dk_172 (dk_at dksX0_when_0 14 rfl rfl)
theorem dX0_when_15 : decode cX0_when 15 = .ok (.aload_n 0, 1) := dk_42 (dk_at dksX0_when_0 15 rfl rfl)
theorem dX0_when_16 : decode cX0_when 16 = .ok (.aload_n 0, 1) := dk_42 (dk_at dksX0_when_0 16 rfl rfl)
theorem dX0_when_17 : decode cX0_when 17 = .ok (.getfield 41, 3) := dk_180 0 41 (dk_at dksX0_when_0 17 rfl rfl)
theorem dX0_when_20 : decode cX0_when 20 = .ok (.invokevirtual 262, 3) := dk_182 1 6 (dk_at dksX0_when_0 20 rfl rfl)
theorem dX0_when_23 : decode cX0_when 23 = .ok (.iconst 0, 1) := dk_3 (dk_at dksX0_when_0 23 rfl rfl)
theorem dX0_when_24 : decode cX0_when 24 = .ok (.istore_n 2, 1) := dk_61 (dk_at dksX0_when_1 0 rfl rfl)
theorem dX0_when_25 : decode cX0_when 25 = .ok (.iload_n 2, 1) := dk_28 (dk_at dksX0_when_1 1 rfl rfl)
theorem dX0_when_26 : decode cX0_when 26 = .ok (.bipush 60, 2) := dk_16 60 (dk_at dksX0_when_1 2 rfl rfl)
theorem dX0_when_28 : decode cX0_when 28 = .ok (.if_icmp .gt 64, 3) := dk_163 0 64 (dk_at dksX0_when_1 4 rfl rfl)
theorem dX0_when_31 : decode cX0_when 31 = .ok (.iload_n 1, 1) := dk_27 (dk_at dksX0_when_1 7 rfl rfl)
theorem dX0_when_32 : decode cX0_when 32 = .ok (.iconst (-1), 1) := dk_2 (dk_at dksX0_when_1 8 rfl rfl)
theorem dX0_when_33 : decode cX0_when 33 = .ok (.if_icmp .ne 13, 3) := dk_160 0 13 (dk_at dksX0_when_1 9 rfl rfl)
theorem dX0_when_36 : decode cX0_when 36 = .ok (.aload_n 0, 1) := dk_42 (dk_at dksX0_when_1 12 rfl rfl)
theorem dX0_when_37 : decode cX0_when 37 = .ok (.getfield 90, 3) := dk_180 0 90 (dk_at dksX0_when_1 13 rfl rfl)
theorem dX0_when_40 : decode cX0_when 40 = .ok (.ifCond .ne 41, 3) := dk_154 0 41 (dk_at dksX0_when_1 16 rfl rfl)
theorem dX0_when_43 : decode cX0_when 43 = .ok (.goto 26, 3) := dk_167 0 26 (dk_at dksX0_when_1 19 rfl rfl)
theorem dX0_when_46 : decode cX0_when 46 = .ok (.aload_n 0, 1) := dk_42 (dk_at dksX0_when_1 22 rfl rfl)
theorem dX0_when_47 : decode cX0_when 47 = .ok (.iconst 1, 1) := dk_4 (dk_at dksX0_when_1 23 rfl rfl)
theorem dX0_when_48 : decode cX0_when 48 = .ok (.aload_n 0, 1) := dk_42 (dk_at dksX0_when_2 0 rfl rfl)
theorem dX0_when_49 : decode cX0_when 49 = .ok (.getfield 25, 3) := dk_180 0 25 (dk_at dksX0_when_2 1 rfl rfl)
theorem dX0_when_52 : decode cX0_when 52 = .ok (.invokevirtual 86, 3) := dk_182 0 86 (dk_at dksX0_when_2 4 rfl rfl)
theorem dX0_when_55 : decode cX0_when 55 = .ok (.ishl, 1) := dk_120 (dk_at dksX0_when_2 7 rfl rfl)
theorem dX0_when_56 : decode cX0_when 56 = .ok (.iconst 1, 1) := dk_4 (dk_at dksX0_when_2 8 rfl rfl)
theorem dX0_when_57 : decode cX0_when 57 = .ok (.isub, 1) := dk_100 (dk_at dksX0_when_2 9 rfl rfl)
theorem dX0_when_58 : decode cX0_when 58 = .ok (.invokevirtual 242, 3) := dk_182 0 242 (dk_at dksX0_when_2 10 rfl rfl)
theorem dX0_when_61 : decode cX0_when 61 = .ok (.iload_n 1, 1) := dk_27 (dk_at dksX0_when_2 13 rfl rfl)
theorem dX0_when_62 : decode cX0_when 62 = .ok (.ishr, 1) := dk_122 (dk_at dksX0_when_2 14 rfl rfl)
theorem dX0_when_63 : decode cX0_when 63 = .ok (.iconst 1, 1) := dk_4 (dk_at dksX0_when_2 15 rfl rfl)
theorem dX0_when_64 : decode cX0_when 64 = .ok (.iand, 1) := dk_126 (dk_at dksX0_when_2 16 rfl rfl)
theorem dX0_when_65 : decode cX0_when 65 = .ok (.iconst 1, 1) := dk_4 (dk_at dksX0_when_2 17 rfl rfl)
theorem dX0_when_66 : decode cX0_when 66 = .ok (.if_icmp .ne 15, 3) := dk_160 0 15 (dk_at dksX0_when_2 18 rfl rfl)
theorem dX0_when_69 : decode cX0_when 69 = .ok (.iload_n 2, 1) := dk_28 (dk_at dksX0_when_2 21 rfl rfl)
theorem dX0_when_70 : decode cX0_when 70 = .ok (.istore_n 3, 1) := dk_62 (dk_at dksX0_when_2 22 rfl rfl)
theorem dX0_when_71 : decode cX0_when 71 = .ok (.aload_n 0, 1) := dk_42 (dk_at dksX0_when_2 23 rfl rfl)
theorem dX0_when_72 : decode cX0_when 72 = .ok (.aload_n 0, 1) := dk_42 (dk_at dksX0_when_3 0 rfl rfl)
theorem dX0_when_73 : decode cX0_when 73 = .ok (.getfield 41, 3) := dk_180 0 41 (dk_at dksX0_when_3 1 rfl rfl)
theorem dX0_when_76 : decode cX0_when 76 = .ok (.invokevirtual 266, 3) := dk_182 1 10 (dk_at dksX0_when_3 4 rfl rfl)
theorem dX0_when_79 : decode cX0_when 79 = .ok (.iload_n 3, 1) := dk_29 (dk_at dksX0_when_3 7 rfl rfl)
theorem dX0_when_80 : decode cX0_when 80 = .ok (.ireturn, 1) := dk_172 (dk_at dksX0_when_3 8 rfl rfl)
theorem dX0_when_81 : decode cX0_when 81 = .ok (.aload_n 0, 1) := dk_42 (dk_at dksX0_when_3 9 rfl rfl)
theorem dX0_when_82 : decode cX0_when 82 = .ok (.invokevirtual 231, 3) := dk_182 0 231 (dk_at dksX0_when_3 10 rfl rfl)
theorem dX0_when_85 : decode cX0_when 85 = .ok (.pop, 1) := dk_87 (dk_at dksX0_when_3 13 rfl rfl)
theorem dX0_when_86 : decode cX0_when 86 = .ok (.iinc 2 1, 3) := dk_132 2 1 (dk_at dksX0_when_3 14 rfl rfl)
theorem dX0_when_89 : decode cX0_when 89 = .ok (.goto (-64), 3) := dk_167 255 192 (dk_at dksX0_when_3 17 rfl rfl)
theorem dX0_when_92 : decode cX0_when 92 = .ok (.iconst (-1), 1) := dk_2 (dk_at dksX0_when_3 20 rfl rfl)
theorem dX0_when_93 : decode cX0_when 93 = .ok (.istore_n 2, 1) := dk_61 (dk_at dksX0_when_3 21 rfl rfl)
theorem dX0_when_94 : decode cX0_when 94 = .ok (.aload_n 0, 1) := dk_42 (dk_at dksX0_when_3 22 rfl rfl)
theorem dX0_when_95 : decode cX0_when 95 = .ok (.aload_n 0, 1) := dk_42 (dk_at dksX0_when_3 23 rfl rfl)
theorem dX0_when_96 : decode cX0_when 96 = .ok (.getfield 41, 3) := dk_180 0 41 (dk_at dksX0_when_4 0 rfl rfl)
theorem dX0_when_99 : decode cX0_when 99 = .ok (.invokevirtual 266, 3) := dk_182 1 10 (dk_at dksX0_when_4 3 rfl rfl)
theorem dX0_when_102 : decode cX0_when 102 = .ok (.iload_n 2, 1) := dk_28 (dk_at dksX0_when_4 6 rfl rfl)
theorem dX0_when_103 : decode cX0_when 103 = .ok (.ireturn, 1) := dk_172 (dk_at dksX0_when_4 7 rfl rfl)
theorem dX0_when_104 : decode cX0_when 104 = .ok (.astore 4, 2) := dk_58 4 (dk_at dksX0_when_4 8 rfl rfl)
theorem dX0_when_106 : decode cX0_when 106 = .ok (.aload_n 0, 1) := dk_42 (dk_at dksX0_when_4 10 rfl rfl)
theorem dX0_when_107 : decode cX0_when 107 = .ok (.aload_n 0, 1) := dk_42 (dk_at dksX0_when_4 11 rfl rfl)
theorem dX0_when_108 : decode cX0_when 108 = .ok (.getfield 41, 3) := dk_180 0 41 (dk_at dksX0_when_4 12 rfl rfl)
theorem dX0_when_111 : decode cX0_when 111 = .ok (.invokevirtual 266, 3) := dk_182 1 10 (dk_at dksX0_when_4 15 rfl rfl)
theorem dX0_when_114 : decode cX0_when 114 = .ok (.aload 4, 2) := dk_25 4 (dk_at dksX0_when_4 18 rfl rfl)
theorem dX0_when_116 : decode cX0_when 116 = .ok (.athrow, 1) := dk_191 (dk_at dksX0_when_4 20 rfl rfl)
abbrev cX0_share : ByteArray := prog_1_method_41_code
def yX0_share : MethodName := ⟨RX0, "share", "(II)J"⟩
def dkwX0_share_2 : List UInt8 := [27, 46, 184, 0, 93, 133, 28, 184, 1, 24, 167, 0, 6, 20, 1, 28, 173]
abbrev dktX0_share_2 : List UInt8 := dkwX0_share_2 ++ []
def dkwX0_share_1 : List UInt8 := [153, 0, 37, 42, 180, 0, 32, 27, 46, 42, 180, 0, 29, 27, 46, 126, 184, 0, 93, 133, 42, 180, 0, 32]
abbrev dktX0_share_1 : List UInt8 := dkwX0_share_1 ++ dktX0_share_2
def dkwX0_share_0 : List UInt8 := [42, 27, 182, 0, 137, 153, 0, 56, 28, 133, 9, 10, 184, 0, 108, 153, 0, 46, 42, 180, 0, 32, 27, 46]
abbrev dktX0_share_0 : List UInt8 := dkwX0_share_0 ++ dktX0_share_1
theorem dksX0_share_0 : cX0_share.data.toList.drop 0 = dktX0_share_0 := by decide +kernel
theorem dksX0_share_1 : cX0_share.data.toList.drop 24 = dktX0_share_1 := dk_seg dksX0_share_0 24 rfl rfl
theorem dksX0_share_2 : cX0_share.data.toList.drop 48 = dktX0_share_2 := dk_seg dksX0_share_1 24 rfl rfl
theorem dX0_share_0 : decode cX0_share 0 = .ok (.aload_n 0, 1) := dk_42 (dk_at dksX0_share_0 0 rfl rfl)
theorem dX0_share_1 : decode cX0_share 1 = .ok (.iload_n 1, 1) := dk_27 (dk_at dksX0_share_0 1 rfl rfl)
theorem dX0_share_2 : decode cX0_share 2 = .ok (.invokevirtual 137, 3) := dk_182 0 137 (dk_at dksX0_share_0 2 rfl rfl)
theorem dX0_share_5 : decode cX0_share 5 = .ok (.ifCond .eq 56, 3) := dk_153 0 56 (dk_at dksX0_share_0 5 rfl rfl)
theorem dX0_share_8 : decode cX0_share 8 = .ok (.iload_n 2, 1) := dk_28 (dk_at dksX0_share_0 8 rfl rfl)
theorem dX0_share_9 : decode cX0_share 9 = .ok (.i2l, 1) := dk_133 (dk_at dksX0_share_0 9 rfl rfl)
theorem dX0_share_10 : decode cX0_share 10 = .ok (.lconst 0, 1) := dk_9 (dk_at dksX0_share_0 10 rfl rfl)
theorem dX0_share_11 : decode cX0_share 11 = .ok (.lconst 1, 1) := dk_10 (dk_at dksX0_share_0 11 rfl rfl)
theorem dX0_share_12 : decode cX0_share 12 = .ok (.invokestatic 108, 3) := dk_184 0 108 (dk_at dksX0_share_0 12 rfl rfl)
theorem dX0_share_15 : decode cX0_share 15 = .ok (.ifCond .eq 46, 3) := dk_153 0 46 (dk_at dksX0_share_0 15 rfl rfl)
theorem dX0_share_18 : decode cX0_share 18 = .ok (.aload_n 0, 1) := dk_42 (dk_at dksX0_share_0 18 rfl rfl)
theorem dX0_share_19 : decode cX0_share 19 = .ok (.getfield 32, 3) := dk_180 0 32 (dk_at dksX0_share_0 19 rfl rfl)
theorem dX0_share_22 : decode cX0_share 22 = .ok (.iload_n 1, 1) := dk_27 (dk_at dksX0_share_0 22 rfl rfl)
theorem dX0_share_23 : decode cX0_share 23 = .ok (.iaload, 1) := dk_46 (dk_at dksX0_share_0 23 rfl rfl)
theorem dX0_share_24 : decode cX0_share 24 = .ok (.ifCond .eq 37, 3) := dk_153 0 37 (dk_at dksX0_share_1 0 rfl rfl)
theorem dX0_share_27 : decode cX0_share 27 = .ok (.aload_n 0, 1) := dk_42 (dk_at dksX0_share_1 3 rfl rfl)
theorem dX0_share_28 : decode cX0_share 28 = .ok (.getfield 32, 3) := dk_180 0 32 (dk_at dksX0_share_1 4 rfl rfl)
theorem dX0_share_31 : decode cX0_share 31 = .ok (.iload_n 1, 1) := dk_27 (dk_at dksX0_share_1 7 rfl rfl)
theorem dX0_share_32 : decode cX0_share 32 = .ok (.iaload, 1) := dk_46 (dk_at dksX0_share_1 8 rfl rfl)
theorem dX0_share_33 : decode cX0_share 33 = .ok (.aload_n 0, 1) := dk_42 (dk_at dksX0_share_1 9 rfl rfl)
theorem dX0_share_34 : decode cX0_share 34 = .ok (.getfield 29, 3) := dk_180 0 29 (dk_at dksX0_share_1 10 rfl rfl)
theorem dX0_share_37 : decode cX0_share 37 = .ok (.iload_n 1, 1) := dk_27 (dk_at dksX0_share_1 13 rfl rfl)
theorem dX0_share_38 : decode cX0_share 38 = .ok (.iaload, 1) := dk_46 (dk_at dksX0_share_1 14 rfl rfl)
theorem dX0_share_39 : decode cX0_share 39 = .ok (.iand, 1) := dk_126 (dk_at dksX0_share_1 15 rfl rfl)
theorem dX0_share_40 : decode cX0_share 40 = .ok (.invokestatic 93, 3) := dk_184 0 93 (dk_at dksX0_share_1 16 rfl rfl)
theorem dX0_share_43 : decode cX0_share 43 = .ok (.i2l, 1) := dk_133 (dk_at dksX0_share_1 19 rfl rfl)
theorem dX0_share_44 : decode cX0_share 44 = .ok (.aload_n 0, 1) := dk_42 (dk_at dksX0_share_1 20 rfl rfl)
theorem dX0_share_45 : decode cX0_share 45 = .ok (.getfield 32, 3) := dk_180 0 32 (dk_at dksX0_share_1 21 rfl rfl)
theorem dX0_share_48 : decode cX0_share 48 = .ok (.iload_n 1, 1) := dk_27 (dk_at dksX0_share_2 0 rfl rfl)
theorem dX0_share_49 : decode cX0_share 49 = .ok (.iaload, 1) := dk_46 (dk_at dksX0_share_2 1 rfl rfl)
theorem dX0_share_50 : decode cX0_share 50 = .ok (.invokestatic 93, 3) := dk_184 0 93 (dk_at dksX0_share_2 2 rfl rfl)
theorem dX0_share_53 : decode cX0_share 53 = .ok (.i2l, 1) := dk_133 (dk_at dksX0_share_2 5 rfl rfl)
theorem dX0_share_54 : decode cX0_share 54 = .ok (.iload_n 2, 1) := dk_28 (dk_at dksX0_share_2 6 rfl rfl)
theorem dX0_share_55 : decode cX0_share 55 = .ok (.invokestatic 280, 3) := dk_184 1 24 (dk_at dksX0_share_2 7 rfl rfl)
theorem dX0_share_58 : decode cX0_share 58 = .ok (.goto 6, 3) := dk_167 0 6 (dk_at dksX0_share_2 10 rfl rfl)
theorem dX0_share_61 : decode cX0_share 61 = .ok (.ldc2_w 284, 3) := dk_20 1 28 (dk_at dksX0_share_2 13 rfl rfl)
theorem dX0_share_64 : decode cX0_share 64 = .ok (.lreturn, 1) := dk_173 (dk_at dksX0_share_2 16 rfl rfl)
abbrev cX0_lowest : ByteArray := prog_1_method_40_code
def yX0_lowest : MethodName := ⟨RX0, "lowest", "(JJI)J"⟩
def dkwX0_lowest_2 : List UInt8 := [173]
abbrev dktX0_lowest_2 : List UInt8 := dkwX0_lowest_2 ++ []
def dkwX0_lowest_1 : List UInt8 := [22, 7, 55, 5, 22, 9, 55, 7, 167, 255, 234, 21, 4, 154, 0, 7, 30, 167, 0, 4, 32, 22, 5, 109]
abbrev dktX0_lowest_1 : List UInt8 := dkwX0_lowest_1 ++ dktX0_lowest_2
def dkwX0_lowest_0 : List UInt8 := [30, 184, 1, 20, 55, 5, 32, 55, 7, 22, 7, 9, 148, 153, 0, 21, 22, 5, 22, 7, 113, 55, 9]
abbrev dktX0_lowest_0 : List UInt8 := dkwX0_lowest_0 ++ dktX0_lowest_1
theorem dksX0_lowest_0 : cX0_lowest.data.toList.drop 0 = dktX0_lowest_0 := by decide +kernel
theorem dksX0_lowest_1 : cX0_lowest.data.toList.drop 23 = dktX0_lowest_1 := dk_seg dksX0_lowest_0 23 rfl rfl
theorem dksX0_lowest_2 : cX0_lowest.data.toList.drop 47 = dktX0_lowest_2 := dk_seg dksX0_lowest_1 24 rfl rfl
theorem dX0_lowest_0 : decode cX0_lowest 0 = .ok (.lload_n 0, 1) := dk_30 (dk_at dksX0_lowest_0 0 rfl rfl)
theorem dX0_lowest_1 : decode cX0_lowest 1 = .ok (.invokestatic 276, 3) := dk_184 1 20 (dk_at dksX0_lowest_0 1 rfl rfl)
theorem dX0_lowest_4 : decode cX0_lowest 4 = .ok (.lstore 5, 2) := dk_55 5 (dk_at dksX0_lowest_0 4 rfl rfl)
theorem dX0_lowest_6 : decode cX0_lowest 6 = .ok (.lload_n 2, 1) := dk_32 (dk_at dksX0_lowest_0 6 rfl rfl)
theorem dX0_lowest_7 : decode cX0_lowest 7 = .ok (.lstore 7, 2) := dk_55 7 (dk_at dksX0_lowest_0 7 rfl rfl)
theorem dX0_lowest_9 : decode cX0_lowest 9 = .ok (.lload 7, 2) := dk_22 7 (dk_at dksX0_lowest_0 9 rfl rfl)
theorem dX0_lowest_11 : decode cX0_lowest 11 = .ok (.lconst 0, 1) := dk_9 (dk_at dksX0_lowest_0 11 rfl rfl)
theorem dX0_lowest_12 : decode cX0_lowest 12 = .ok (.lcmp, 1) := dk_148 (dk_at dksX0_lowest_0 12 rfl rfl)
theorem dX0_lowest_13 : decode cX0_lowest 13 = .ok (.ifCond .eq 21, 3) := dk_153 0 21 (dk_at dksX0_lowest_0 13 rfl rfl)
theorem dX0_lowest_16 : decode cX0_lowest 16 = .ok (.lload 5, 2) := dk_22 5 (dk_at dksX0_lowest_0 16 rfl rfl)
theorem dX0_lowest_18 : decode cX0_lowest 18 = .ok (.lload 7, 2) := dk_22 7 (dk_at dksX0_lowest_0 18 rfl rfl)
theorem dX0_lowest_20 : decode cX0_lowest 20 = .ok (.lrem, 1) := dk_113 (dk_at dksX0_lowest_0 20 rfl rfl)
theorem dX0_lowest_21 : decode cX0_lowest 21 = .ok (.lstore 9, 2) := dk_55 9 (dk_at dksX0_lowest_0 21 rfl rfl)
theorem dX0_lowest_23 : decode cX0_lowest 23 = .ok (.lload 7, 2) := dk_22 7 (dk_at dksX0_lowest_1 0 rfl rfl)
theorem dX0_lowest_25 : decode cX0_lowest 25 = .ok (.lstore 5, 2) := dk_55 5 (dk_at dksX0_lowest_1 2 rfl rfl)
theorem dX0_lowest_27 : decode cX0_lowest 27 = .ok (.lload 9, 2) := dk_22 9 (dk_at dksX0_lowest_1 4 rfl rfl)
theorem dX0_lowest_29 : decode cX0_lowest 29 = .ok (.lstore 7, 2) := dk_55 7 (dk_at dksX0_lowest_1 6 rfl rfl)
theorem dX0_lowest_31 : decode cX0_lowest 31 = .ok (.goto (-22), 3) := dk_167 255 234 (dk_at dksX0_lowest_1 8 rfl rfl)
theorem dX0_lowest_34 : decode cX0_lowest 34 = .ok (.iload 4, 2) := dk_21 4 (dk_at dksX0_lowest_1 11 rfl rfl)
theorem dX0_lowest_36 : decode cX0_lowest 36 = .ok (.ifCond .ne 7, 3) := dk_154 0 7 (dk_at dksX0_lowest_1 13 rfl rfl)
theorem dX0_lowest_39 : decode cX0_lowest 39 = .ok (.lload_n 0, 1) := dk_30 (dk_at dksX0_lowest_1 16 rfl rfl)
theorem dX0_lowest_40 : decode cX0_lowest 40 = .ok (.goto 4, 3) := dk_167 0 4 (dk_at dksX0_lowest_1 17 rfl rfl)
theorem dX0_lowest_43 : decode cX0_lowest 43 = .ok (.lload_n 2, 1) := dk_32 (dk_at dksX0_lowest_1 20 rfl rfl)
theorem dX0_lowest_44 : decode cX0_lowest 44 = .ok (.lload 5, 2) := dk_22 5 (dk_at dksX0_lowest_1 21 rfl rfl)
theorem dX0_lowest_46 : decode cX0_lowest 46 = .ok (.ldiv, 1) := dk_109 (dk_at dksX0_lowest_1 23 rfl rfl)
theorem dX0_lowest_47 : decode cX0_lowest 47 = .ok (.lreturn, 1) := dk_173 (dk_at dksX0_lowest_2 0 rfl rfl)
abbrev cX0_judge : ByteArray := prog_1_method_44_code
def yX0_judge : MethodName := ⟨RX0, "judge", "(III)I"⟩
def dkwX0_judge_1 : List UInt8 := [21, 4, 172]
abbrev dktX0_judge_1 : List UInt8 := dkwX0_judge_1 ++ []
def dkwX0_judge_0 : List UInt8 := [42, 27, 28, 29, 182, 1, 30, 54, 4, 21, 4, 154, 0, 13, 42, 27, 28, 29, 182, 1, 33, 167, 0, 5]
abbrev dktX0_judge_0 : List UInt8 := dkwX0_judge_0 ++ dktX0_judge_1
theorem dksX0_judge_0 : cX0_judge.data.toList.drop 0 = dktX0_judge_0 := by decide +kernel
theorem dksX0_judge_1 : cX0_judge.data.toList.drop 24 = dktX0_judge_1 := dk_seg dksX0_judge_0 24 rfl rfl
theorem dX0_judge_0 : decode cX0_judge 0 = .ok (.aload_n 0, 1) := dk_42 (dk_at dksX0_judge_0 0 rfl rfl)
theorem dX0_judge_1 : decode cX0_judge 1 = .ok (.iload_n 1, 1) := dk_27 (dk_at dksX0_judge_0 1 rfl rfl)
theorem dX0_judge_2 : decode cX0_judge 2 = .ok (.iload_n 2, 1) := dk_28 (dk_at dksX0_judge_0 2 rfl rfl)
theorem dX0_judge_3 : decode cX0_judge 3 = .ok (.iload_n 3, 1) := dk_29 (dk_at dksX0_judge_0 3 rfl rfl)
theorem dX0_judge_4 : decode cX0_judge 4 = .ok (.invokevirtual 286, 3) := dk_182 1 30 (dk_at dksX0_judge_0 4 rfl rfl)
theorem dX0_judge_7 : decode cX0_judge 7 = .ok (.istore 4, 2) := dk_54 4 (dk_at dksX0_judge_0 7 rfl rfl)
theorem dX0_judge_9 : decode cX0_judge 9 = .ok (.iload 4, 2) := dk_21 4 (dk_at dksX0_judge_0 9 rfl rfl)
theorem dX0_judge_11 : decode cX0_judge 11 = .ok (.ifCond .ne 13, 3) := dk_154 0 13 (dk_at dksX0_judge_0 11 rfl rfl)
theorem dX0_judge_14 : decode cX0_judge 14 = .ok (.aload_n 0, 1) := dk_42 (dk_at dksX0_judge_0 14 rfl rfl)
theorem dX0_judge_15 : decode cX0_judge 15 = .ok (.iload_n 1, 1) := dk_27 (dk_at dksX0_judge_0 15 rfl rfl)
theorem dX0_judge_16 : decode cX0_judge 16 = .ok (.iload_n 2, 1) := dk_28 (dk_at dksX0_judge_0 16 rfl rfl)
theorem dX0_judge_17 : decode cX0_judge 17 = .ok (.iload_n 3, 1) := dk_29 (dk_at dksX0_judge_0 17 rfl rfl)
theorem dX0_judge_18 : decode cX0_judge 18 = .ok (.invokevirtual 289, 3) := dk_182 1 33 (dk_at dksX0_judge_0 18 rfl rfl)
theorem dX0_judge_21 : decode cX0_judge 21 = .ok (.goto 5, 3) := dk_167 0 5 (dk_at dksX0_judge_0 21 rfl rfl)
theorem dX0_judge_24 : decode cX0_judge 24 = .ok (.iload 4, 2) := dk_21 4 (dk_at dksX0_judge_1 0 rfl rfl)
theorem dX0_judge_26 : decode cX0_judge 26 = .ok (.ireturn, 1) := dk_172 (dk_at dksX0_judge_1 2 rfl rfl)
abbrev cX0_toldBad : ByteArray := prog_1_method_42_code
def yX0_toldBad : MethodName := ⟨RX0, "toldBad", "(III)I"⟩
def dkwX0_toldBad_3 : List UInt8 := [153, 0, 7, 3, 167, 0, 5, 16, 251, 172]
abbrev dktX0_toldBad_3 : List UInt8 := dkwX0_toldBad_3 ++ []
def dkwX0_toldBad_2 : List UInt8 := [180, 0, 252, 42, 180, 0, 73, 27, 50, 180, 0, 252, 164, 0, 6, 16, 254, 172, 42, 29, 182, 0, 137]
abbrev dktX0_toldBad_2 : List UInt8 := dkwX0_toldBad_2 ++ dktX0_toldBad_3
def dkwX0_toldBad_1 : List UInt8 := [172, 42, 180, 0, 73, 28, 50, 180, 0, 249, 156, 0, 6, 16, 245, 172, 42, 180, 0, 73, 28, 50]
abbrev dktX0_toldBad_1 : List UInt8 := dkwX0_toldBad_1 ++ dktX0_toldBad_2
def dkwX0_toldBad_0 : List UInt8 := [28, 184, 0, 246, 154, 0, 6, 16, 254, 172, 42, 27, 182, 1, 1, 54, 4, 21, 4, 153, 0, 6, 21, 4]
abbrev dktX0_toldBad_0 : List UInt8 := dkwX0_toldBad_0 ++ dktX0_toldBad_1
theorem dksX0_toldBad_0 : cX0_toldBad.data.toList.drop 0 = dktX0_toldBad_0 := by decide +kernel
theorem dksX0_toldBad_1 : cX0_toldBad.data.toList.drop 24 = dktX0_toldBad_1 := dk_seg dksX0_toldBad_0 24 rfl rfl
theorem dksX0_toldBad_2 : cX0_toldBad.data.toList.drop 46 = dktX0_toldBad_2 := dk_seg dksX0_toldBad_1 22 rfl rfl
theorem dksX0_toldBad_3 : cX0_toldBad.data.toList.drop 69 = dktX0_toldBad_3 := dk_seg dksX0_toldBad_2 23 rfl rfl
theorem dX0_toldBad_0 : decode cX0_toldBad 0 = .ok (.iload_n 2, 1) := dk_28 (dk_at dksX0_toldBad_0 0 rfl rfl)
theorem dX0_toldBad_1 : decode cX0_toldBad 1 = .ok (.invokestatic 246, 3) := dk_184 0 246 (dk_at dksX0_toldBad_0 1 rfl rfl)
theorem dX0_toldBad_4 : decode cX0_toldBad 4 = .ok (.ifCond .ne 6, 3) := dk_154 0 6 (dk_at dksX0_toldBad_0 4 rfl rfl)
theorem dX0_toldBad_7 : decode cX0_toldBad 7 = .ok (.bipush (-2), 2) := dk_16 254 (dk_at dksX0_toldBad_0 7 rfl rfl)
theorem dX0_toldBad_9 : decode cX0_toldBad 9 = .ok (.ireturn, 1) := dk_172 (dk_at dksX0_toldBad_0 9 rfl rfl)
theorem dX0_toldBad_10 : decode cX0_toldBad 10 = .ok (.aload_n 0, 1) := dk_42 (dk_at dksX0_toldBad_0 10 rfl rfl)
theorem dX0_toldBad_11 : decode cX0_toldBad 11 = .ok (.iload_n 1, 1) := dk_27 (dk_at dksX0_toldBad_0 11 rfl rfl)
theorem dX0_toldBad_12 : decode cX0_toldBad 12 = .ok (.invokevirtual 257, 3) := dk_182 1 1 (dk_at dksX0_toldBad_0 12 rfl rfl)
theorem dX0_toldBad_15 : decode cX0_toldBad 15 = .ok (.istore 4, 2) := dk_54 4 (dk_at dksX0_toldBad_0 15 rfl rfl)
theorem dX0_toldBad_17 : decode cX0_toldBad 17 = .ok (.iload 4, 2) := dk_21 4 (dk_at dksX0_toldBad_0 17 rfl rfl)
theorem dX0_toldBad_19 : decode cX0_toldBad 19 = .ok (.ifCond .eq 6, 3) := dk_153 0 6 (dk_at dksX0_toldBad_0 19 rfl rfl)
theorem dX0_toldBad_22 : decode cX0_toldBad 22 = .ok (.iload 4, 2) := dk_21 4 (dk_at dksX0_toldBad_0 22 rfl rfl)
theorem dX0_toldBad_24 : decode cX0_toldBad 24 = .ok (.ireturn, 1) := dk_172 (dk_at dksX0_toldBad_1 0 rfl rfl)
theorem dX0_toldBad_25 : decode cX0_toldBad 25 = .ok (.aload_n 0, 1) := dk_42 (dk_at dksX0_toldBad_1 1 rfl rfl)
theorem dX0_toldBad_26 : decode cX0_toldBad 26 = .ok (.getfield 73, 3) := dk_180 0 73 (dk_at dksX0_toldBad_1 2 rfl rfl)
theorem dX0_toldBad_29 : decode cX0_toldBad 29 = .ok (.iload_n 2, 1) := dk_28 (dk_at dksX0_toldBad_1 5 rfl rfl)
theorem dX0_toldBad_30 : decode cX0_toldBad 30 = .ok (.aaload, 1) := dk_50 (dk_at dksX0_toldBad_1 6 rfl rfl)
theorem dX0_toldBad_31 : decode cX0_toldBad 31 = .ok (.getfield 249, 3) := dk_180 0 249 (dk_at dksX0_toldBad_1 7 rfl rfl)
theorem dX0_toldBad_34 : decode cX0_toldBad 34 = .ok (.ifCond .ge 6, 3) := dk_156 0 6 (dk_at dksX0_toldBad_1 10 rfl rfl)
theorem dX0_toldBad_37 : decode cX0_toldBad 37 = .ok (.bipush (-11), 2) := dk_16 245 (dk_at dksX0_toldBad_1 13 rfl rfl)
theorem dX0_toldBad_39 : decode cX0_toldBad 39 = .ok (.ireturn, 1) := dk_172 (dk_at dksX0_toldBad_1 15 rfl rfl)
theorem dX0_toldBad_40 : decode cX0_toldBad 40 = .ok (.aload_n 0, 1) := dk_42 (dk_at dksX0_toldBad_1 16 rfl rfl)
theorem dX0_toldBad_41 : decode cX0_toldBad 41 = .ok (.getfield 73, 3) := dk_180 0 73 (dk_at dksX0_toldBad_1 17 rfl rfl)
theorem dX0_toldBad_44 : decode cX0_toldBad 44 = .ok (.iload_n 2, 1) := dk_28 (dk_at dksX0_toldBad_1 20 rfl rfl)
theorem dX0_toldBad_45 : decode cX0_toldBad 45 = .ok (.aaload, 1) := dk_50 (dk_at dksX0_toldBad_1 21 rfl rfl)
theorem dX0_toldBad_46 : decode cX0_toldBad 46 = .ok (.getfield 252, 3) := dk_180 0 252 (dk_at dksX0_toldBad_2 0 rfl rfl)
theorem dX0_toldBad_49 : decode cX0_toldBad 49 = .ok (.aload_n 0, 1) := dk_42 (dk_at dksX0_toldBad_2 3 rfl rfl)
theorem dX0_toldBad_50 : decode cX0_toldBad 50 = .ok (.getfield 73, 3) := dk_180 0 73 (dk_at dksX0_toldBad_2 4 rfl rfl)
theorem dX0_toldBad_53 : decode cX0_toldBad 53 = .ok (.iload_n 1, 1) := dk_27 (dk_at dksX0_toldBad_2 7 rfl rfl)
theorem dX0_toldBad_54 : decode cX0_toldBad 54 = .ok (.aaload, 1) := dk_50 (dk_at dksX0_toldBad_2 8 rfl rfl)
theorem dX0_toldBad_55 : decode cX0_toldBad 55 = .ok (.getfield 252, 3) := dk_180 0 252 (dk_at dksX0_toldBad_2 9 rfl rfl)
theorem dX0_toldBad_58 : decode cX0_toldBad 58 = .ok (.if_icmp .le 6, 3) := dk_164 0 6 (dk_at dksX0_toldBad_2 12 rfl rfl)
theorem dX0_toldBad_61 : decode cX0_toldBad 61 = .ok (.bipush (-2), 2) := dk_16 254 (dk_at dksX0_toldBad_2 15 rfl rfl)
theorem dX0_toldBad_63 : decode cX0_toldBad 63 = .ok (.ireturn, 1) := dk_172 (dk_at dksX0_toldBad_2 17 rfl rfl)
theorem dX0_toldBad_64 : decode cX0_toldBad 64 = .ok (.aload_n 0, 1) := dk_42 (dk_at dksX0_toldBad_2 18 rfl rfl)
theorem dX0_toldBad_65 : decode cX0_toldBad 65 = .ok (.iload_n 3, 1) := dk_29 (dk_at dksX0_toldBad_2 19 rfl rfl)
theorem dX0_toldBad_66 : decode cX0_toldBad 66 = .ok (.invokevirtual 137, 3) := dk_182 0 137 (dk_at dksX0_toldBad_2 20 rfl rfl)
theorem dX0_toldBad_69 : decode cX0_toldBad 69 = .ok (.ifCond .eq 7, 3) := dk_153 0 7 (dk_at dksX0_toldBad_3 0 rfl rfl)
theorem dX0_toldBad_72 : decode cX0_toldBad 72 = .ok (.iconst 0, 1) := dk_3 (dk_at dksX0_toldBad_3 3 rfl rfl)
theorem dX0_toldBad_73 : decode cX0_toldBad 73 = .ok (.goto 5, 3) := dk_167 0 5 (dk_at dksX0_toldBad_3 4 rfl rfl)
theorem dX0_toldBad_76 : decode cX0_toldBad 76 = .ok (.bipush (-5), 2) := dk_16 251 (dk_at dksX0_toldBad_3 7 rfl rfl)
theorem dX0_toldBad_78 : decode cX0_toldBad 78 = .ok (.ireturn, 1) := dk_172 (dk_at dksX0_toldBad_3 9 rfl rfl)
abbrev cX0_unlike : ByteArray := prog_1_method_43_code
def yX0_unlike : MethodName := ⟨RX0, "unlike", "(III)I"⟩
def dkwX0_unlike_5 : List UInt8 := [25, 6, 191]
abbrev dktX0_unlike_5 : List UInt8 := dkwX0_unlike_5 ++ []
def dkwX0_unlike_4 : List UInt8 := [2, 54, 4, 42, 42, 180, 0, 38, 182, 1, 10, 21, 4, 172, 58, 6, 42, 42, 180, 0, 38, 182, 1, 10]
abbrev dktX0_unlike_4 : List UInt8 := dkwX0_unlike_4 ++ dktX0_unlike_5
def dkwX0_unlike_3 : List UInt8 := [159, 0, 18, 21, 4, 54, 5, 42, 42, 180, 0, 38, 182, 1, 10, 21, 5, 172, 132, 4, 1, 167, 255, 180]
abbrev dktX0_unlike_3 : List UInt8 := dkwX0_unlike_3 ++ dktX0_unlike_4
def dkwX0_unlike_2 : List UInt8 := [182, 0, 231, 87, 42, 180, 0, 35, 29, 46, 42, 180, 0, 73, 28, 50, 180, 0, 254, 21, 4, 46]
abbrev dktX0_unlike_2 : List UInt8 := dkwX0_unlike_2 ++ dktX0_unlike_3
def dkwX0_unlike_1 : List UInt8 := [162, 0, 68, 42, 29, 42, 180, 0, 73, 27, 50, 180, 0, 254, 21, 4, 46, 182, 0, 211, 87, 42]
abbrev dktX0_unlike_1 : List UInt8 := dkwX0_unlike_1 ++ dktX0_unlike_2
def dkwX0_unlike_0 : List UInt8 := [42, 42, 180, 0, 38, 182, 1, 6, 3, 54, 4, 21, 4, 42, 180, 0, 73, 28, 50, 180, 0, 252]
abbrev dktX0_unlike_0 : List UInt8 := dkwX0_unlike_0 ++ dktX0_unlike_1
theorem dksX0_unlike_0 : cX0_unlike.data.toList.drop 0 = dktX0_unlike_0 := by decide +kernel
theorem dksX0_unlike_1 : cX0_unlike.data.toList.drop 22 = dktX0_unlike_1 := dk_seg dksX0_unlike_0 22 rfl rfl
theorem dksX0_unlike_2 : cX0_unlike.data.toList.drop 44 = dktX0_unlike_2 := dk_seg dksX0_unlike_1 22 rfl rfl
theorem dksX0_unlike_3 : cX0_unlike.data.toList.drop 66 = dktX0_unlike_3 := dk_seg dksX0_unlike_2 22 rfl rfl
theorem dksX0_unlike_4 : cX0_unlike.data.toList.drop 90 = dktX0_unlike_4 := dk_seg dksX0_unlike_3 24 rfl rfl
theorem dksX0_unlike_5 : cX0_unlike.data.toList.drop 114 = dktX0_unlike_5 := dk_seg dksX0_unlike_4 24 rfl rfl
theorem dX0_unlike_0 : decode cX0_unlike 0 = .ok (.aload_n 0, 1) := dk_42 (dk_at dksX0_unlike_0 0 rfl rfl)
theorem dX0_unlike_1 : decode cX0_unlike 1 = .ok (.aload_n 0, 1) := dk_42 (dk_at dksX0_unlike_0 1 rfl rfl)
theorem dX0_unlike_2 : decode cX0_unlike 2 = .ok (.getfield 38, 3) := dk_180 0 38 (dk_at dksX0_unlike_0 2 rfl rfl)
theorem dX0_unlike_5 : decode cX0_unlike 5 = .ok (.invokevirtual 262, 3) := dk_182 1 6 (dk_at dksX0_unlike_0 5 rfl rfl)
theorem dX0_unlike_8 : decode cX0_unlike 8 = .ok (.iconst 0, 1) := dk_3 (dk_at dksX0_unlike_0 8 rfl rfl)
theorem dX0_unlike_9 : decode cX0_unlike 9 = .ok (.istore 4, 2) := dk_54 4 (dk_at dksX0_unlike_0 9 rfl rfl)
theorem dX0_unlike_11 : decode cX0_unlike 11 = .ok (.iload 4, 2) := dk_21 4 (dk_at dksX0_unlike_0 11 rfl rfl)
theorem dX0_unlike_13 : decode cX0_unlike 13 = .ok (.aload_n 0, 1) := dk_42 (dk_at dksX0_unlike_0 13 rfl rfl)
theorem dX0_unlike_14 : decode cX0_unlike 14 = .ok (.getfield 73, 3) := dk_180 0 73 (dk_at dksX0_unlike_0 14 rfl rfl)
theorem dX0_unlike_17 : decode cX0_unlike 17 = .ok (.iload_n 2, 1) := dk_28 (dk_at dksX0_unlike_0 17 rfl rfl)
theorem dX0_unlike_18 : decode cX0_unlike 18 = .ok (.aaload, 1) := dk_50 (dk_at dksX0_unlike_0 18 rfl rfl)
theorem dX0_unlike_19 : decode cX0_unlike 19 = .ok (.getfield 252, 3) := dk_180 0 252 (dk_at dksX0_unlike_0 19 rfl rfl)
theorem dX0_unlike_22 : decode cX0_unlike 22 = .ok (.if_icmp .ge 68, 3) := dk_162 0 68 (dk_at dksX0_unlike_1 0 rfl rfl)
theorem dX0_unlike_25 : decode cX0_unlike 25 = .ok (.aload_n 0, 1) := dk_42 (dk_at dksX0_unlike_1 3 rfl rfl)
theorem dX0_unlike_26 : decode cX0_unlike 26 = .ok (.iload_n 3, 1) := dk_29 (dk_at dksX0_unlike_1 4 rfl rfl)
theorem dX0_unlike_27 : decode cX0_unlike 27 = .ok (.aload_n 0, 1) := dk_42 (dk_at dksX0_unlike_1 5 rfl rfl)
theorem dX0_unlike_28 : decode cX0_unlike 28 = .ok (.getfield 73, 3) := dk_180 0 73 (dk_at dksX0_unlike_1 6 rfl rfl)
theorem dX0_unlike_31 : decode cX0_unlike 31 = .ok (.iload_n 1, 1) := dk_27 (dk_at dksX0_unlike_1 9 rfl rfl)
theorem dX0_unlike_32 : decode cX0_unlike 32 = .ok (.aaload, 1) := dk_50 (dk_at dksX0_unlike_1 10 rfl rfl)
theorem dX0_unlike_33 : decode cX0_unlike 33 = .ok (.getfield 254, 3) := dk_180 0 254 (dk_at dksX0_unlike_1 11 rfl rfl)
theorem dX0_unlike_36 : decode cX0_unlike 36 = .ok (.iload 4, 2) := dk_21 4 (dk_at dksX0_unlike_1 14 rfl rfl)
theorem dX0_unlike_38 : decode cX0_unlike 38 = .ok (.iaload, 1) := dk_46 (dk_at dksX0_unlike_1 16 rfl rfl)
theorem dX0_unlike_39 : decode cX0_unlike 39 = .ok (.invokevirtual 211, 3) := dk_182 0 211 (dk_at dksX0_unlike_1 17 rfl rfl)
theorem dX0_unlike_42 : decode cX0_unlike 42 = .ok (.pop, 1) := dk_87 (dk_at dksX0_unlike_1 20 rfl rfl)
theorem dX0_unlike_43 : decode cX0_unlike 43 = .ok (.aload_n 0, 1) := dk_42 (dk_at dksX0_unlike_1 21 rfl rfl)
theorem dX0_unlike_44 : decode cX0_unlike 44 = .ok (.invokevirtual 231, 3) := dk_182 0 231 (dk_at dksX0_unlike_2 0 rfl rfl)
theorem dX0_unlike_47 : decode cX0_unlike 47 = .ok (.pop, 1) := dk_87 (dk_at dksX0_unlike_2 3 rfl rfl)
theorem dX0_unlike_48 : decode cX0_unlike 48 = .ok (.aload_n 0, 1) := dk_42 (dk_at dksX0_unlike_2 4 rfl rfl)
theorem dX0_unlike_49 : decode cX0_unlike 49 = .ok (.getfield 35, 3) := dk_180 0 35 (dk_at dksX0_unlike_2 5 rfl rfl)
theorem dX0_unlike_52 : decode cX0_unlike 52 = .ok (.iload_n 3, 1) := dk_29 (dk_at dksX0_unlike_2 8 rfl rfl)
theorem dX0_unlike_53 : decode cX0_unlike 53 = .ok (.iaload, 1) := dk_46 (dk_at dksX0_unlike_2 9 rfl rfl)
theorem dX0_unlike_54 : decode cX0_unlike 54 = .ok (.aload_n 0, 1) := dk_42 (dk_at dksX0_unlike_2 10 rfl rfl)
theorem dX0_unlike_55 : decode cX0_unlike 55 = .ok (.getfield 73, 3) := dk_180 0 73 (dk_at dksX0_unlike_2 11 rfl rfl)
theorem dX0_unlike_58 : decode cX0_unlike 58 = .ok (.iload_n 2, 1) := dk_28 (dk_at dksX0_unlike_2 14 rfl rfl)
theorem dX0_unlike_59 : decode cX0_unlike 59 = .ok (.aaload, 1) := dk_50 (dk_at dksX0_unlike_2 15 rfl rfl)
theorem dX0_unlike_60 : decode cX0_unlike 60 = .ok (.getfield 254, 3) := dk_180 0 254 (dk_at dksX0_unlike_2 16 rfl rfl)
theorem dX0_unlike_63 : decode cX0_unlike 63 = .ok (.iload 4, 2) := dk_21 4 (dk_at dksX0_unlike_2 19 rfl rfl)
theorem dX0_unlike_65 : decode cX0_unlike 65 = .ok (.iaload, 1) := dk_46 (dk_at dksX0_unlike_2 21 rfl rfl)
theorem dX0_unlike_66 : decode cX0_unlike 66 = .ok (.if_icmp .eq 18, 3) := dk_159 0 18 (dk_at dksX0_unlike_3 0 rfl rfl)
theorem dX0_unlike_69 : decode cX0_unlike 69 = .ok (.iload 4, 2) := dk_21 4 (dk_at dksX0_unlike_3 3 rfl rfl)
theorem dX0_unlike_71 : decode cX0_unlike 71 = .ok (.istore 5, 2) := dk_54 5 (dk_at dksX0_unlike_3 5 rfl rfl)
theorem dX0_unlike_73 : decode cX0_unlike 73 = .ok (.aload_n 0, 1) := dk_42 (dk_at dksX0_unlike_3 7 rfl rfl)
theorem dX0_unlike_74 : decode cX0_unlike 74 = .ok (.aload_n 0, 1) := dk_42 (dk_at dksX0_unlike_3 8 rfl rfl)
theorem dX0_unlike_75 : decode cX0_unlike 75 = .ok (.getfield 38, 3) := dk_180 0 38 (dk_at dksX0_unlike_3 9 rfl rfl)
theorem dX0_unlike_78 : decode cX0_unlike 78 = .ok (.invokevirtual 266, 3) := dk_182 1 10 (dk_at dksX0_unlike_3 12 rfl rfl)
theorem dX0_unlike_81 : decode cX0_unlike 81 = .ok (.iload 5, 2) := dk_21 5 (dk_at dksX0_unlike_3 15 rfl rfl)
theorem dX0_unlike_83 : decode cX0_unlike 83 = .ok (.ireturn, 1) := dk_172 (dk_at dksX0_unlike_3 17 rfl rfl)
theorem dX0_unlike_84 : decode cX0_unlike 84 = .ok (.iinc 4 1, 3) := dk_132 4 1 (dk_at dksX0_unlike_3 18 rfl rfl)
theorem dX0_unlike_87 : decode cX0_unlike 87 = .ok (.goto (-76), 3) := dk_167 255 180 (dk_at dksX0_unlike_3 21 rfl rfl)
theorem dX0_unlike_90 : decode cX0_unlike 90 = .ok (.iconst (-1), 1) := dk_2 (dk_at dksX0_unlike_4 0 rfl rfl)
theorem dX0_unlike_91 : decode cX0_unlike 91 = .ok (.istore 4, 2) := dk_54 4 (dk_at dksX0_unlike_4 1 rfl rfl)
theorem dX0_unlike_93 : decode cX0_unlike 93 = .ok (.aload_n 0, 1) := dk_42 (dk_at dksX0_unlike_4 3 rfl rfl)
theorem dX0_unlike_94 : decode cX0_unlike 94 = .ok (.aload_n 0, 1) := dk_42 (dk_at dksX0_unlike_4 4 rfl rfl)
theorem dX0_unlike_95 : decode cX0_unlike 95 = .ok (.getfield 38, 3) := dk_180 0 38 (dk_at dksX0_unlike_4 5 rfl rfl)
theorem dX0_unlike_98 : decode cX0_unlike 98 = .ok (.invokevirtual 266, 3) := dk_182 1 10 (dk_at dksX0_unlike_4 8 rfl rfl)
theorem dX0_unlike_101 : decode cX0_unlike 101 = .ok (.iload 4, 2) := dk_21 4 (dk_at dksX0_unlike_4 11 rfl rfl)
theorem dX0_unlike_103 : decode cX0_unlike 103 = .ok (.ireturn, 1) := dk_172 (dk_at dksX0_unlike_4 13 rfl rfl)
theorem dX0_unlike_104 : decode cX0_unlike 104 = .ok (.astore 6, 2) := dk_58 6 (dk_at dksX0_unlike_4 14 rfl rfl)
theorem dX0_unlike_106 : decode cX0_unlike 106 = .ok (.aload_n 0, 1) := dk_42 (dk_at dksX0_unlike_4 16 rfl rfl)
theorem dX0_unlike_107 : decode cX0_unlike 107 = .ok (.aload_n 0, 1) := dk_42 (dk_at dksX0_unlike_4 17 rfl rfl)
theorem dX0_unlike_108 : decode cX0_unlike 108 = .ok (.getfield 38, 3) := dk_180 0 38 (dk_at dksX0_unlike_4 18 rfl rfl)
theorem dX0_unlike_111 : decode cX0_unlike 111 = .ok (.invokevirtual 266, 3) := dk_182 1 10 (dk_at dksX0_unlike_4 21 rfl rfl)
theorem dX0_unlike_114 : decode cX0_unlike 114 = .ok (.aload 6, 2) := dk_25 6 (dk_at dksX0_unlike_5 0 rfl rfl)
theorem dX0_unlike_116 : decode cX0_unlike 116 = .ok (.athrow, 1) := dk_191 (dk_at dksX0_unlike_5 2 rfl rfl)
abbrev cX0_kinds : ByteArray := prog_1_method_45_code
def yX0_kinds : MethodName := ⟨RX0, "kinds", "(IIII)I"⟩
def dkwX0_kinds_7 : List UInt8 := [182, 1, 36, 87, 25, 9, 191]
abbrev dktX0_kinds_7 : List UInt8 := dkwX0_kinds_7 ++ []
def dkwX0_kinds_6 : List UInt8 := [180, 0, 25, 29, 25, 6, 182, 1, 36, 87, 21, 8, 172, 58, 9, 42, 180, 0, 25, 29, 25, 6]
abbrev dktX0_kinds_6 : List UInt8 := dkwX0_kinds_6 ++ dktX0_kinds_7
def dkwX0_kinds_5 : List UInt8 := [160, 0, 12, 21, 7, 4, 21, 8, 120, 128, 54, 7, 132, 8, 1, 167, 255, 175, 21, 7, 54, 8, 42]
abbrev dktX0_kinds_5 : List UInt8 := dkwX0_kinds_5 ++ dktX0_kinds_6
def dkwX0_kinds_4 : List UInt8 := [42, 29, 25, 6, 182, 0, 186, 21, 8, 182, 0, 169, 182, 1, 36, 87, 42, 27, 28, 29, 182, 1, 33, 2]
abbrev dktX0_kinds_4 : List UInt8 := dkwX0_kinds_4 ++ dktX0_kinds_5
def dkwX0_kinds_3 : List UInt8 := [180, 0, 25, 29, 21, 4, 154, 0, 18, 42, 29, 21, 8, 25, 6, 180, 0, 122, 182, 0, 169, 167, 0, 15]
abbrev dktX0_kinds_3 : List UInt8 := dkwX0_kinds_3 ++ dktX0_kinds_4
def dkwX0_kinds_2 : List UInt8 := [54, 7, 3, 54, 8, 21, 8, 21, 4, 154, 0, 8, 16, 6, 167, 0, 5, 16, 10, 162, 0, 70, 42]
abbrev dktX0_kinds_2 : List UInt8 := dkwX0_kinds_2 ++ dktX0_kinds_3
def dkwX0_kinds_1 : List UInt8 := [184, 0, 108, 154, 0, 6, 16, 249, 172, 42, 180, 0, 25, 29, 182, 0, 116, 192, 0, 120, 58, 6, 3]
abbrev dktX0_kinds_1 : List UInt8 := dkwX0_kinds_1 ++ dktX0_kinds_2
def dkwX0_kinds_0 : List UInt8 := [42, 27, 28, 29, 182, 1, 30, 54, 5, 21, 5, 153, 0, 6, 21, 5, 172, 21, 4, 133, 9, 10]
abbrev dktX0_kinds_0 : List UInt8 := dkwX0_kinds_0 ++ dktX0_kinds_1
theorem dksX0_kinds_0 : cX0_kinds.data.toList.drop 0 = dktX0_kinds_0 := by decide +kernel
theorem dksX0_kinds_1 : cX0_kinds.data.toList.drop 22 = dktX0_kinds_1 := dk_seg dksX0_kinds_0 22 rfl rfl
theorem dksX0_kinds_2 : cX0_kinds.data.toList.drop 45 = dktX0_kinds_2 := dk_seg dksX0_kinds_1 23 rfl rfl
theorem dksX0_kinds_3 : cX0_kinds.data.toList.drop 68 = dktX0_kinds_3 := dk_seg dksX0_kinds_2 23 rfl rfl
theorem dksX0_kinds_4 : cX0_kinds.data.toList.drop 92 = dktX0_kinds_4 := dk_seg dksX0_kinds_3 24 rfl rfl
theorem dksX0_kinds_5 : cX0_kinds.data.toList.drop 116 = dktX0_kinds_5 := dk_seg dksX0_kinds_4 24 rfl rfl
theorem dksX0_kinds_6 : cX0_kinds.data.toList.drop 139 = dktX0_kinds_6 := dk_seg dksX0_kinds_5 23 rfl rfl
theorem dksX0_kinds_7 : cX0_kinds.data.toList.drop 161 = dktX0_kinds_7 := dk_seg dksX0_kinds_6 22 rfl rfl
theorem dX0_kinds_0 : decode cX0_kinds 0 = .ok (.aload_n 0, 1) := dk_42 (dk_at dksX0_kinds_0 0 rfl rfl)
theorem dX0_kinds_1 : decode cX0_kinds 1 = .ok (.iload_n 1, 1) := dk_27 (dk_at dksX0_kinds_0 1 rfl rfl)
theorem dX0_kinds_2 : decode cX0_kinds 2 = .ok (.iload_n 2, 1) := dk_28 (dk_at dksX0_kinds_0 2 rfl rfl)
theorem dX0_kinds_3 : decode cX0_kinds 3 = .ok (.iload_n 3, 1) := dk_29 (dk_at dksX0_kinds_0 3 rfl rfl)
theorem dX0_kinds_4 : decode cX0_kinds 4 = .ok (.invokevirtual 286, 3) := dk_182 1 30 (dk_at dksX0_kinds_0 4 rfl rfl)
theorem dX0_kinds_7 : decode cX0_kinds 7 = .ok (.istore 5, 2) := dk_54 5 (dk_at dksX0_kinds_0 7 rfl rfl)
theorem dX0_kinds_9 : decode cX0_kinds 9 = .ok (.iload 5, 2) := dk_21 5 (dk_at dksX0_kinds_0 9 rfl rfl)
theorem dX0_kinds_11 : decode cX0_kinds 11 = .ok (.ifCond .eq 6, 3) := dk_153 0 6 (dk_at dksX0_kinds_0 11 rfl rfl)
theorem dX0_kinds_14 : decode cX0_kinds 14 = .ok (.iload 5, 2) := dk_21 5 (dk_at dksX0_kinds_0 14 rfl rfl)
theorem dX0_kinds_16 : decode cX0_kinds 16 = .ok (.ireturn, 1) := dk_172 (dk_at dksX0_kinds_0 16 rfl rfl)
theorem dX0_kinds_17 : decode cX0_kinds 17 = .ok (.iload 4, 2) := dk_21 4 (dk_at dksX0_kinds_0 17 rfl rfl)
theorem dX0_kinds_19 : decode cX0_kinds 19 = .ok (.i2l, 1) := dk_133 (dk_at dksX0_kinds_0 19 rfl rfl)
theorem dX0_kinds_20 : decode cX0_kinds 20 = .ok (.lconst 0, 1) := dk_9 (dk_at dksX0_kinds_0 20 rfl rfl)
theorem dX0_kinds_21 : decode cX0_kinds 21 = .ok (.lconst 1, 1) := dk_10 (dk_at dksX0_kinds_0 21 rfl rfl)
theorem dX0_kinds_22 : decode cX0_kinds 22 = .ok (.invokestatic 108, 3) := dk_184 0 108 (dk_at dksX0_kinds_1 0 rfl rfl)
theorem dX0_kinds_25 : decode cX0_kinds 25 = .ok (.ifCond .ne 6, 3) := dk_154 0 6 (dk_at dksX0_kinds_1 3 rfl rfl)
theorem dX0_kinds_28 : decode cX0_kinds 28 = .ok (.bipush (-7), 2) := dk_16 249 (dk_at dksX0_kinds_1 6 rfl rfl)
theorem dX0_kinds_30 : decode cX0_kinds 30 = .ok (.ireturn, 1) := dk_172 (dk_at dksX0_kinds_1 8 rfl rfl)
theorem dX0_kinds_31 : decode cX0_kinds 31 = .ok (.aload_n 0, 1) := dk_42 (dk_at dksX0_kinds_1 9 rfl rfl)
theorem dX0_kinds_32 : decode cX0_kinds 32 = .ok (.getfield 25, 3) := dk_180 0 25 (dk_at dksX0_kinds_1 10 rfl rfl)
theorem dX0_kinds_35 : decode cX0_kinds 35 = .ok (.iload_n 3, 1) := dk_29 (dk_at dksX0_kinds_1 13 rfl rfl)
theorem dX0_kinds_36 : decode cX0_kinds 36 = .ok (.invokevirtual 116, 3) := dk_182 0 116 (dk_at dksX0_kinds_1 14 rfl rfl)
theorem dX0_kinds_39 : decode cX0_kinds 39 = .ok (.checkcast 120, 3) := dk_192 0 120 (dk_at dksX0_kinds_1 17 rfl rfl)
theorem dX0_kinds_42 : decode cX0_kinds 42 = .ok (.astore 6, 2) := dk_58 6 (dk_at dksX0_kinds_1 20 rfl rfl)
theorem dX0_kinds_44 : decode cX0_kinds 44 = .ok (.iconst 0, 1) := dk_3 (dk_at dksX0_kinds_1 22 rfl rfl)
theorem dX0_kinds_45 : decode cX0_kinds 45 = .ok (.istore 7, 2) := dk_54 7 (dk_at dksX0_kinds_2 0 rfl rfl)
theorem dX0_kinds_47 : decode cX0_kinds 47 = .ok (.iconst 0, 1) := dk_3 (dk_at dksX0_kinds_2 2 rfl rfl)
theorem dX0_kinds_48 : decode cX0_kinds 48 = .ok (.istore 8, 2) := dk_54 8 (dk_at dksX0_kinds_2 3 rfl rfl)
theorem dX0_kinds_50 : decode cX0_kinds 50 = .ok (.iload 8, 2) := dk_21 8 (dk_at dksX0_kinds_2 5 rfl rfl)
theorem dX0_kinds_52 : decode cX0_kinds 52 = .ok (.iload 4, 2) := dk_21 4 (dk_at dksX0_kinds_2 7 rfl rfl)
theorem dX0_kinds_54 : decode cX0_kinds 54 = .ok (.ifCond .ne 8, 3) := dk_154 0 8 (dk_at dksX0_kinds_2 9 rfl rfl)
theorem dX0_kinds_57 : decode cX0_kinds 57 = .ok (.bipush 6, 2) := dk_16 6 (dk_at dksX0_kinds_2 12 rfl rfl)
theorem dX0_kinds_59 : decode cX0_kinds 59 = .ok (.goto 5, 3) := dk_167 0 5 (dk_at dksX0_kinds_2 14 rfl rfl)
theorem dX0_kinds_62 : decode cX0_kinds 62 = .ok (.bipush 10, 2) := dk_16 10 (dk_at dksX0_kinds_2 17 rfl rfl)
theorem dX0_kinds_64 : decode cX0_kinds 64 = .ok (.if_icmp .ge 70, 3) := dk_162 0 70 (dk_at dksX0_kinds_2 19 rfl rfl)
theorem dX0_kinds_67 : decode cX0_kinds 67 = .ok (.aload_n 0, 1) := dk_42 (dk_at dksX0_kinds_2 22 rfl rfl)
theorem dX0_kinds_68 : decode cX0_kinds 68 = .ok (.getfield 25, 3) := dk_180 0 25 (dk_at dksX0_kinds_3 0 rfl rfl)
theorem dX0_kinds_71 : decode cX0_kinds 71 = .ok (.iload_n 3, 1) := dk_29 (dk_at dksX0_kinds_3 3 rfl rfl)
theorem dX0_kinds_72 : decode cX0_kinds 72 = .ok (.iload 4, 2) := dk_21 4 (dk_at dksX0_kinds_3 4 rfl rfl)
theorem dX0_kinds_74 : decode cX0_kinds 74 = .ok (.ifCond .ne 18, 3) := dk_154 0 18 (dk_at dksX0_kinds_3 6 rfl rfl)
theorem dX0_kinds_77 : decode cX0_kinds 77 = .ok (.aload_n 0, 1) := dk_42 (dk_at dksX0_kinds_3 9 rfl rfl)
theorem dX0_kinds_78 : decode cX0_kinds 78 = .ok (.iload_n 3, 1) := dk_29 (dk_at dksX0_kinds_3 10 rfl rfl)
theorem dX0_kinds_79 : decode cX0_kinds 79 = .ok (.iload 8, 2) := dk_21 8 (dk_at dksX0_kinds_3 11 rfl rfl)
theorem dX0_kinds_81 : decode cX0_kinds 81 = .ok (.aload 6, 2) := dk_25 6 (dk_at dksX0_kinds_3 13 rfl rfl)
theorem dX0_kinds_83 : decode cX0_kinds 83 = .ok (.getfield 122, 3) := dk_180 0 122 (dk_at dksX0_kinds_3 15 rfl rfl)
theorem dX0_kinds_86 : decode cX0_kinds 86 = .ok (.invokevirtual 169, 3) := dk_182 0 169 (dk_at dksX0_kinds_3 18 rfl rfl)
theorem dX0_kinds_89 : decode cX0_kinds 89 = .ok (.goto 15, 3) := dk_167 0 15 (dk_at dksX0_kinds_3 21 rfl rfl)
theorem dX0_kinds_92 : decode cX0_kinds 92 = .ok (.aload_n 0, 1) := dk_42 (dk_at dksX0_kinds_4 0 rfl rfl)
theorem dX0_kinds_93 : decode cX0_kinds 93 = .ok (.iload_n 3, 1) := dk_29 (dk_at dksX0_kinds_4 1 rfl rfl)
theorem dX0_kinds_94 : decode cX0_kinds 94 = .ok (.aload 6, 2) := dk_25 6 (dk_at dksX0_kinds_4 2 rfl rfl)
theorem dX0_kinds_96 : decode cX0_kinds 96 = .ok (.invokevirtual 186, 3) := dk_182 0 186 (dk_at dksX0_kinds_4 4 rfl rfl)
theorem dX0_kinds_99 : decode cX0_kinds 99 = .ok (.iload 8, 2) := dk_21 8 (dk_at dksX0_kinds_4 7 rfl rfl)
theorem dX0_kinds_101 : decode cX0_kinds 101 = .ok (.invokevirtual 169, 3) := dk_182 0 169 (dk_at dksX0_kinds_4 9 rfl rfl)
theorem dX0_kinds_104 : decode cX0_kinds 104 = .ok (.invokevirtual 292, 3) := dk_182 1 36 (dk_at dksX0_kinds_4 12 rfl rfl)
theorem dX0_kinds_107 : decode cX0_kinds 107 = .ok (.pop, 1) := dk_87 (dk_at dksX0_kinds_4 15 rfl rfl)
theorem dX0_kinds_108 : decode cX0_kinds 108 = .ok (.aload_n 0, 1) := dk_42 (dk_at dksX0_kinds_4 16 rfl rfl)
theorem dX0_kinds_109 : decode cX0_kinds 109 = .ok (.iload_n 1, 1) := dk_27 (dk_at dksX0_kinds_4 17 rfl rfl)
theorem dX0_kinds_110 : decode cX0_kinds 110 = .ok (.iload_n 2, 1) := dk_28 (dk_at dksX0_kinds_4 18 rfl rfl)
theorem dX0_kinds_111 : decode cX0_kinds 111 = .ok (.iload_n 3, 1) := dk_29 (dk_at dksX0_kinds_4 19 rfl rfl)
theorem dX0_kinds_112 : decode cX0_kinds 112 = .ok (.invokevirtual 289, 3) := dk_182 1 33 (dk_at dksX0_kinds_4 20 rfl rfl)
theorem dX0_kinds_115 : decode cX0_kinds 115 = .ok (.iconst (-1), 1) := dk_2 (dk_at dksX0_kinds_4 23 rfl rfl)
theorem dX0_kinds_116 : decode cX0_kinds 116 = .ok (.if_icmp .ne 12, 3) := dk_160 0 12 (dk_at dksX0_kinds_5 0 rfl rfl)
theorem dX0_kinds_119 : decode cX0_kinds 119 = .ok (.iload 7, 2) := dk_21 7 (dk_at dksX0_kinds_5 3 rfl rfl)
theorem dX0_kinds_121 : decode cX0_kinds 121 = .ok (.iconst 1, 1) := dk_4 (dk_at dksX0_kinds_5 5 rfl rfl)
theorem dX0_kinds_122 : decode cX0_kinds 122 = .ok (.iload 8, 2) := dk_21 8 (dk_at dksX0_kinds_5 6 rfl rfl)
theorem dX0_kinds_124 : decode cX0_kinds 124 = .ok (.ishl, 1) := dk_120 (dk_at dksX0_kinds_5 8 rfl rfl)
theorem dX0_kinds_125 : decode cX0_kinds 125 = .ok (.ior, 1) := dk_128 (dk_at dksX0_kinds_5 9 rfl rfl)
theorem dX0_kinds_126 : decode cX0_kinds 126 = .ok (.istore 7, 2) := dk_54 7 (dk_at dksX0_kinds_5 10 rfl rfl)
theorem dX0_kinds_128 : decode cX0_kinds 128 = .ok (.iinc 8 1, 3) := dk_132 8 1 (dk_at dksX0_kinds_5 12 rfl rfl)
theorem dX0_kinds_131 : decode cX0_kinds 131 = .ok (.goto (-81), 3) := dk_167 255 175 (dk_at dksX0_kinds_5 15 rfl rfl)
theorem dX0_kinds_134 : decode cX0_kinds 134 = .ok (.iload 7, 2) := dk_21 7 (dk_at dksX0_kinds_5 18 rfl rfl)
theorem dX0_kinds_136 : decode cX0_kinds 136 = .ok (.istore 8, 2) := dk_54 8 (dk_at dksX0_kinds_5 20 rfl rfl)
theorem dX0_kinds_138 : decode cX0_kinds 138 = .ok (.aload_n 0, 1) := dk_42 (dk_at dksX0_kinds_5 22 rfl rfl)
theorem dX0_kinds_139 : decode cX0_kinds 139 = .ok (.getfield 25, 3) := dk_180 0 25 (dk_at dksX0_kinds_6 0 rfl rfl)
theorem dX0_kinds_142 : decode cX0_kinds 142 = .ok (.iload_n 3, 1) := dk_29 (dk_at dksX0_kinds_6 3 rfl rfl)
theorem dX0_kinds_143 : decode cX0_kinds 143 = .ok (.aload 6, 2) := dk_25 6 (dk_at dksX0_kinds_6 4 rfl rfl)
theorem dX0_kinds_145 : decode cX0_kinds 145 = .ok (.invokevirtual 292, 3) := dk_182 1 36 (dk_at dksX0_kinds_6 6 rfl rfl)
theorem dX0_kinds_148 : decode cX0_kinds 148 = .ok (.pop, 1) := dk_87 (dk_at dksX0_kinds_6 9 rfl rfl)
theorem dX0_kinds_149 : decode cX0_kinds 149 = .ok (.iload 8, 2) := dk_21 8 (dk_at dksX0_kinds_6 10 rfl rfl)
theorem dX0_kinds_151 : decode cX0_kinds 151 = .ok (.ireturn, 1) := dk_172 (dk_at dksX0_kinds_6 12 rfl rfl)
theorem dX0_kinds_152 : decode cX0_kinds 152 = .ok (.astore 9, 2) := dk_58 9 (dk_at dksX0_kinds_6 13 rfl rfl)
theorem dX0_kinds_154 : decode cX0_kinds 154 = .ok (.aload_n 0, 1) := dk_42 (dk_at dksX0_kinds_6 15 rfl rfl)
theorem dX0_kinds_155 : decode cX0_kinds 155 = .ok (.getfield 25, 3) := dk_180 0 25 (dk_at dksX0_kinds_6 16 rfl rfl)
theorem dX0_kinds_158 : decode cX0_kinds 158 = .ok (.iload_n 3, 1) := dk_29 (dk_at dksX0_kinds_6 19 rfl rfl)
theorem dX0_kinds_159 : decode cX0_kinds 159 = .ok (.aload 6, 2) := dk_25 6 (dk_at dksX0_kinds_6 20 rfl rfl)
theorem dX0_kinds_161 : decode cX0_kinds 161 = .ok (.invokevirtual 292, 3) := dk_182 1 36 (dk_at dksX0_kinds_7 0 rfl rfl)
theorem dX0_kinds_164 : decode cX0_kinds 164 = .ok (.pop, 1) := dk_87 (dk_at dksX0_kinds_7 3 rfl rfl)
theorem dX0_kinds_165 : decode cX0_kinds 165 = .ok (.aload 9, 2) := dk_25 9 (dk_at dksX0_kinds_7 4 rfl rfl)
theorem dX0_kinds_167 : decode cX0_kinds 167 = .ok (.athrow, 1) := dk_191 (dk_at dksX0_kinds_7 6 rfl rfl)
abbrev cX0_turned : ByteArray := prog_1_method_46_code
def yX0_turned : MethodName := ⟨RX0, "turned", "(III)I"⟩
def dkwX0_turned_4 : List UInt8 := [58, 8, 42, 180, 0, 29, 29, 21, 5, 79, 25, 8, 191]
abbrev dktX0_turned_4 : List UInt8 := dkwX0_turned_4 ++ []
def dkwX0_turned_3 : List UInt8 := [54, 6, 132, 7, 1, 167, 255, 213, 21, 6, 54, 7, 42, 180, 0, 29, 29, 21, 5, 79, 21, 7, 172]
abbrev dktX0_turned_3 : List UInt8 := dkwX0_turned_3 ++ dktX0_turned_4
def dkwX0_turned_2 : List UInt8 := [21, 7, 120, 130, 79, 42, 27, 28, 29, 182, 1, 33, 2, 160, 0, 12, 21, 6, 4, 21, 7, 120, 128]
abbrev dktX0_turned_2 : List UInt8 := dkwX0_turned_2 ++ dktX0_turned_3
def dkwX0_turned_1 : List UInt8 := [54, 5, 3, 54, 6, 3, 54, 7, 21, 7, 16, 16, 162, 0, 42, 42, 180, 0, 29, 29, 21, 5, 4]
abbrev dktX0_turned_1 : List UInt8 := dkwX0_turned_1 ++ dktX0_turned_2
def dkwX0_turned_0 : List UInt8 := [42, 27, 28, 29, 182, 1, 30, 54, 4, 21, 4, 153, 0, 6, 21, 4, 172, 42, 180, 0, 29, 29, 46]
abbrev dktX0_turned_0 : List UInt8 := dkwX0_turned_0 ++ dktX0_turned_1
theorem dksX0_turned_0 : cX0_turned.data.toList.drop 0 = dktX0_turned_0 := by decide +kernel
theorem dksX0_turned_1 : cX0_turned.data.toList.drop 23 = dktX0_turned_1 := dk_seg dksX0_turned_0 23 rfl rfl
theorem dksX0_turned_2 : cX0_turned.data.toList.drop 46 = dktX0_turned_2 := dk_seg dksX0_turned_1 23 rfl rfl
theorem dksX0_turned_3 : cX0_turned.data.toList.drop 69 = dktX0_turned_3 := dk_seg dksX0_turned_2 23 rfl rfl
theorem dksX0_turned_4 : cX0_turned.data.toList.drop 92 = dktX0_turned_4 := dk_seg dksX0_turned_3 23 rfl rfl
theorem dX0_turned_0 : decode cX0_turned 0 = .ok (.aload_n 0, 1) := dk_42 (dk_at dksX0_turned_0 0 rfl rfl)
theorem dX0_turned_1 : decode cX0_turned 1 = .ok (.iload_n 1, 1) := dk_27 (dk_at dksX0_turned_0 1 rfl rfl)
theorem dX0_turned_2 : decode cX0_turned 2 = .ok (.iload_n 2, 1) := dk_28 (dk_at dksX0_turned_0 2 rfl rfl)
theorem dX0_turned_3 : decode cX0_turned 3 = .ok (.iload_n 3, 1) := dk_29 (dk_at dksX0_turned_0 3 rfl rfl)
theorem dX0_turned_4 : decode cX0_turned 4 = .ok (.invokevirtual 286, 3) := dk_182 1 30 (dk_at dksX0_turned_0 4 rfl rfl)
theorem dX0_turned_7 : decode cX0_turned 7 = .ok (.istore 4, 2) := dk_54 4 (dk_at dksX0_turned_0 7 rfl rfl)
theorem dX0_turned_9 : decode cX0_turned 9 = .ok (.iload 4, 2) := dk_21 4 (dk_at dksX0_turned_0 9 rfl rfl)
theorem dX0_turned_11 : decode cX0_turned 11 = .ok (.ifCond .eq 6, 3) := dk_153 0 6 (dk_at dksX0_turned_0 11 rfl rfl)
theorem dX0_turned_14 : decode cX0_turned 14 = .ok (.iload 4, 2) := dk_21 4 (dk_at dksX0_turned_0 14 rfl rfl)
theorem dX0_turned_16 : decode cX0_turned 16 = .ok (.ireturn, 1) := dk_172 (dk_at dksX0_turned_0 16 rfl rfl)
theorem dX0_turned_17 : decode cX0_turned 17 = .ok (.aload_n 0, 1) := dk_42 (dk_at dksX0_turned_0 17 rfl rfl)
theorem dX0_turned_18 : decode cX0_turned 18 = .ok (.getfield 29, 3) := dk_180 0 29 (dk_at dksX0_turned_0 18 rfl rfl)
theorem dX0_turned_21 : decode cX0_turned 21 = .ok (.iload_n 3, 1) := dk_29 (dk_at dksX0_turned_0 21 rfl rfl)
theorem dX0_turned_22 : decode cX0_turned 22 = .ok (.iaload, 1) := dk_46 (dk_at dksX0_turned_0 22 rfl rfl)
theorem dX0_turned_23 : decode cX0_turned 23 = .ok (.istore 5, 2) := dk_54 5 (dk_at dksX0_turned_1 0 rfl rfl)
theorem dX0_turned_25 : decode cX0_turned 25 = .ok (.iconst 0, 1) := dk_3 (dk_at dksX0_turned_1 2 rfl rfl)
theorem dX0_turned_26 : decode cX0_turned 26 = .ok (.istore 6, 2) := dk_54 6 (dk_at dksX0_turned_1 3 rfl rfl)
theorem dX0_turned_28 : decode cX0_turned 28 = .ok (.iconst 0, 1) := dk_3 (dk_at dksX0_turned_1 5 rfl rfl)
theorem dX0_turned_29 : decode cX0_turned 29 = .ok (.istore 7, 2) := dk_54 7 (dk_at dksX0_turned_1 6 rfl rfl)
theorem dX0_turned_31 : decode cX0_turned 31 = .ok (.iload 7, 2) := dk_21 7 (dk_at dksX0_turned_1 8 rfl rfl)
theorem dX0_turned_33 : decode cX0_turned 33 = .ok (.bipush 16, 2) := dk_16 16 (dk_at dksX0_turned_1 10 rfl rfl)
theorem dX0_turned_35 : decode cX0_turned 35 = .ok (.if_icmp .ge 42, 3) := dk_162 0 42 (dk_at dksX0_turned_1 12 rfl rfl)
theorem dX0_turned_38 : decode cX0_turned 38 = .ok (.aload_n 0, 1) := dk_42 (dk_at dksX0_turned_1 15 rfl rfl)
theorem dX0_turned_39 : decode cX0_turned 39 = .ok (.getfield 29, 3) := dk_180 0 29 (dk_at dksX0_turned_1 16 rfl rfl)
theorem dX0_turned_42 : decode cX0_turned 42 = .ok (.iload_n 3, 1) := dk_29 (dk_at dksX0_turned_1 19 rfl rfl)
theorem dX0_turned_43 : decode cX0_turned 43 = .ok (.iload 5, 2) := dk_21 5 (dk_at dksX0_turned_1 20 rfl rfl)
theorem dX0_turned_45 : decode cX0_turned 45 = .ok (.iconst 1, 1) := dk_4 (dk_at dksX0_turned_1 22 rfl rfl)
theorem dX0_turned_46 : decode cX0_turned 46 = .ok (.iload 7, 2) := dk_21 7 (dk_at dksX0_turned_2 0 rfl rfl)
theorem dX0_turned_48 : decode cX0_turned 48 = .ok (.ishl, 1) := dk_120 (dk_at dksX0_turned_2 2 rfl rfl)
theorem dX0_turned_49 : decode cX0_turned 49 = .ok (.ixor, 1) := dk_130 (dk_at dksX0_turned_2 3 rfl rfl)
theorem dX0_turned_50 : decode cX0_turned 50 = .ok (.iastore, 1) := dk_79 (dk_at dksX0_turned_2 4 rfl rfl)
theorem dX0_turned_51 : decode cX0_turned 51 = .ok (.aload_n 0, 1) := dk_42 (dk_at dksX0_turned_2 5 rfl rfl)
theorem dX0_turned_52 : decode cX0_turned 52 = .ok (.iload_n 1, 1) := dk_27 (dk_at dksX0_turned_2 6 rfl rfl)
theorem dX0_turned_53 : decode cX0_turned 53 = .ok (.iload_n 2, 1) := dk_28 (dk_at dksX0_turned_2 7 rfl rfl)
theorem dX0_turned_54 : decode cX0_turned 54 = .ok (.iload_n 3, 1) := dk_29 (dk_at dksX0_turned_2 8 rfl rfl)
theorem dX0_turned_55 : decode cX0_turned 55 = .ok (.invokevirtual 289, 3) := dk_182 1 33 (dk_at dksX0_turned_2 9 rfl rfl)
theorem dX0_turned_58 : decode cX0_turned 58 = .ok (.iconst (-1), 1) := dk_2 (dk_at dksX0_turned_2 12 rfl rfl)
theorem dX0_turned_59 : decode cX0_turned 59 = .ok (.if_icmp .ne 12, 3) := dk_160 0 12 (dk_at dksX0_turned_2 13 rfl rfl)
theorem dX0_turned_62 : decode cX0_turned 62 = .ok (.iload 6, 2) := dk_21 6 (dk_at dksX0_turned_2 16 rfl rfl)
theorem dX0_turned_64 : decode cX0_turned 64 = .ok (.iconst 1, 1) := dk_4 (dk_at dksX0_turned_2 18 rfl rfl)
theorem dX0_turned_65 : decode cX0_turned 65 = .ok (.iload 7, 2) := dk_21 7 (dk_at dksX0_turned_2 19 rfl rfl)
theorem dX0_turned_67 : decode cX0_turned 67 = .ok (.ishl, 1) := dk_120 (dk_at dksX0_turned_2 21 rfl rfl)
theorem dX0_turned_68 : decode cX0_turned 68 = .ok (.ior, 1) := dk_128 (dk_at dksX0_turned_2 22 rfl rfl)
theorem dX0_turned_69 : decode cX0_turned 69 = .ok (.istore 6, 2) := dk_54 6 (dk_at dksX0_turned_3 0 rfl rfl)
theorem dX0_turned_71 : decode cX0_turned 71 = .ok (.iinc 7 1, 3) := dk_132 7 1 (dk_at dksX0_turned_3 2 rfl rfl)
theorem dX0_turned_74 : decode cX0_turned 74 = .ok (.goto (-43), 3) := dk_167 255 213 (dk_at dksX0_turned_3 5 rfl rfl)
theorem dX0_turned_77 : decode cX0_turned 77 = .ok (.iload 6, 2) := dk_21 6 (dk_at dksX0_turned_3 8 rfl rfl)
theorem dX0_turned_79 : decode cX0_turned 79 = .ok (.istore 7, 2) := dk_54 7 (dk_at dksX0_turned_3 10 rfl rfl)
theorem dX0_turned_81 : decode cX0_turned 81 = .ok (.aload_n 0, 1) := dk_42 (dk_at dksX0_turned_3 12 rfl rfl)
theorem dX0_turned_82 : decode cX0_turned 82 = .ok (.getfield 29, 3) := dk_180 0 29 (dk_at dksX0_turned_3 13 rfl rfl)
theorem dX0_turned_85 : decode cX0_turned 85 = .ok (.iload_n 3, 1) := dk_29 (dk_at dksX0_turned_3 16 rfl rfl)
theorem dX0_turned_86 : decode cX0_turned 86 = .ok (.iload 5, 2) := dk_21 5 (dk_at dksX0_turned_3 17 rfl rfl)
theorem dX0_turned_88 : decode cX0_turned 88 = .ok (.iastore, 1) := dk_79 (dk_at dksX0_turned_3 19 rfl rfl)
theorem dX0_turned_89 : decode cX0_turned 89 = .ok (.iload 7, 2) := dk_21 7 (dk_at dksX0_turned_3 20 rfl rfl)
theorem dX0_turned_91 : decode cX0_turned 91 = .ok (.ireturn, 1) := dk_172 (dk_at dksX0_turned_3 22 rfl rfl)
theorem dX0_turned_92 : decode cX0_turned 92 = .ok (.astore 8, 2) := dk_58 8 (dk_at dksX0_turned_4 0 rfl rfl)
theorem dX0_turned_94 : decode cX0_turned 94 = .ok (.aload_n 0, 1) := dk_42 (dk_at dksX0_turned_4 2 rfl rfl)
theorem dX0_turned_95 : decode cX0_turned 95 = .ok (.getfield 29, 3) := dk_180 0 29 (dk_at dksX0_turned_4 3 rfl rfl)
theorem dX0_turned_98 : decode cX0_turned 98 = .ok (.iload_n 3, 1) := dk_29 (dk_at dksX0_turned_4 6 rfl rfl)
theorem dX0_turned_99 : decode cX0_turned 99 = .ok (.iload 5, 2) := dk_21 5 (dk_at dksX0_turned_4 7 rfl rfl)
theorem dX0_turned_101 : decode cX0_turned 101 = .ok (.iastore, 1) := dk_79 (dk_at dksX0_turned_4 9 rfl rfl)
theorem dX0_turned_102 : decode cX0_turned 102 = .ok (.aload 8, 2) := dk_25 8 (dk_at dksX0_turned_4 10 rfl rfl)
theorem dX0_turned_104 : decode cX0_turned 104 = .ok (.athrow, 1) := dk_191 (dk_at dksX0_turned_4 12 rfl rfl)
abbrev cX0_lucks : ByteArray := prog_1_method_47_code
def yX0_lucks : MethodName := ⟨RX0, "lucks", "(IIII)I"⟩
def dkwX0_lucks_5 : List UInt8 := [154, 0, 8, 21, 7, 167, 0, 5, 21, 8, 172]
abbrev dktX0_lucks_5 : List UInt8 := dkwX0_lucks_5 ++ []
def dkwX0_lucks_4 : List UInt8 := [167, 0, 16, 132, 7, 1, 21, 8, 2, 160, 0, 7, 21, 9, 54, 8, 132, 9, 1, 167, 255, 191, 21, 4]
abbrev dktX0_lucks_4 : List UInt8 := dkwX0_lucks_4 ++ dktX0_lucks_5
def dkwX0_lucks_3 : List UInt8 := [2, 160, 0, 7, 4, 167, 0, 4, 3, 54, 10, 42, 29, 5, 21, 6, 182, 0, 182, 21, 10, 154, 0, 6]
abbrev dktX0_lucks_3 : List UInt8 := dkwX0_lucks_3 ++ dktX0_lucks_4
def dkwX0_lucks_2 : List UInt8 := [54, 9, 21, 9, 16, 99, 163, 0, 64, 42, 29, 5, 21, 9, 182, 0, 182, 42, 27, 28, 29, 182, 1, 33]
abbrev dktX0_lucks_2 : List UInt8 := dkwX0_lucks_2 ++ dktX0_lucks_3
def dkwX0_lucks_1 : List UInt8 := [184, 0, 108, 154, 0, 6, 16, 249, 172, 42, 180, 0, 35, 29, 46, 54, 6, 3, 54, 7, 2, 54, 8, 3]
abbrev dktX0_lucks_1 : List UInt8 := dkwX0_lucks_1 ++ dktX0_lucks_2
def dkwX0_lucks_0 : List UInt8 := [42, 27, 28, 29, 182, 1, 30, 54, 5, 21, 5, 153, 0, 6, 21, 5, 172, 21, 4, 133, 9, 10]
abbrev dktX0_lucks_0 : List UInt8 := dkwX0_lucks_0 ++ dktX0_lucks_1
theorem dksX0_lucks_0 : cX0_lucks.data.toList.drop 0 = dktX0_lucks_0 := by decide +kernel
theorem dksX0_lucks_1 : cX0_lucks.data.toList.drop 22 = dktX0_lucks_1 := dk_seg dksX0_lucks_0 22 rfl rfl
theorem dksX0_lucks_2 : cX0_lucks.data.toList.drop 46 = dktX0_lucks_2 := dk_seg dksX0_lucks_1 24 rfl rfl
theorem dksX0_lucks_3 : cX0_lucks.data.toList.drop 70 = dktX0_lucks_3 := dk_seg dksX0_lucks_2 24 rfl rfl
theorem dksX0_lucks_4 : cX0_lucks.data.toList.drop 94 = dktX0_lucks_4 := dk_seg dksX0_lucks_3 24 rfl rfl
theorem dksX0_lucks_5 : cX0_lucks.data.toList.drop 118 = dktX0_lucks_5 := dk_seg dksX0_lucks_4 24 rfl rfl
theorem dX0_lucks_0 : decode cX0_lucks 0 = .ok (.aload_n 0, 1) := dk_42 (dk_at dksX0_lucks_0 0 rfl rfl)
theorem dX0_lucks_1 : decode cX0_lucks 1 = .ok (.iload_n 1, 1) := dk_27 (dk_at dksX0_lucks_0 1 rfl rfl)
theorem dX0_lucks_2 : decode cX0_lucks 2 = .ok (.iload_n 2, 1) := dk_28 (dk_at dksX0_lucks_0 2 rfl rfl)
theorem dX0_lucks_3 : decode cX0_lucks 3 = .ok (.iload_n 3, 1) := dk_29 (dk_at dksX0_lucks_0 3 rfl rfl)
theorem dX0_lucks_4 : decode cX0_lucks 4 = .ok (.invokevirtual 286, 3) := dk_182 1 30 (dk_at dksX0_lucks_0 4 rfl rfl)
theorem dX0_lucks_7 : decode cX0_lucks 7 = .ok (.istore 5, 2) := dk_54 5 (dk_at dksX0_lucks_0 7 rfl rfl)
theorem dX0_lucks_9 : decode cX0_lucks 9 = .ok (.iload 5, 2) := dk_21 5 (dk_at dksX0_lucks_0 9 rfl rfl)
theorem dX0_lucks_11 : decode cX0_lucks 11 = .ok (.ifCond .eq 6, 3) := dk_153 0 6 (dk_at dksX0_lucks_0 11 rfl rfl)
theorem dX0_lucks_14 : decode cX0_lucks 14 = .ok (.iload 5, 2) := dk_21 5 (dk_at dksX0_lucks_0 14 rfl rfl)
theorem dX0_lucks_16 : decode cX0_lucks 16 = .ok (.ireturn, 1) := dk_172 (dk_at dksX0_lucks_0 16 rfl rfl)
theorem dX0_lucks_17 : decode cX0_lucks 17 = .ok (.iload 4, 2) := dk_21 4 (dk_at dksX0_lucks_0 17 rfl rfl)
theorem dX0_lucks_19 : decode cX0_lucks 19 = .ok (.i2l, 1) := dk_133 (dk_at dksX0_lucks_0 19 rfl rfl)
theorem dX0_lucks_20 : decode cX0_lucks 20 = .ok (.lconst 0, 1) := dk_9 (dk_at dksX0_lucks_0 20 rfl rfl)
theorem dX0_lucks_21 : decode cX0_lucks 21 = .ok (.lconst 1, 1) := dk_10 (dk_at dksX0_lucks_0 21 rfl rfl)
theorem dX0_lucks_22 : decode cX0_lucks 22 = .ok (.invokestatic 108, 3) := dk_184 0 108 (dk_at dksX0_lucks_1 0 rfl rfl)
theorem dX0_lucks_25 : decode cX0_lucks 25 = .ok (.ifCond .ne 6, 3) := dk_154 0 6 (dk_at dksX0_lucks_1 3 rfl rfl)
theorem dX0_lucks_28 : decode cX0_lucks 28 = .ok (.bipush (-7), 2) := dk_16 249 (dk_at dksX0_lucks_1 6 rfl rfl)
theorem dX0_lucks_30 : decode cX0_lucks 30 = .ok (.ireturn, 1) := dk_172 (dk_at dksX0_lucks_1 8 rfl rfl)
theorem dX0_lucks_31 : decode cX0_lucks 31 = .ok (.aload_n 0, 1) := dk_42 (dk_at dksX0_lucks_1 9 rfl rfl)
theorem dX0_lucks_32 : decode cX0_lucks 32 = .ok (.getfield 35, 3) := dk_180 0 35 (dk_at dksX0_lucks_1 10 rfl rfl)
theorem dX0_lucks_35 : decode cX0_lucks 35 = .ok (.iload_n 3, 1) := dk_29 (dk_at dksX0_lucks_1 13 rfl rfl)
theorem dX0_lucks_36 : decode cX0_lucks 36 = .ok (.iaload, 1) := dk_46 (dk_at dksX0_lucks_1 14 rfl rfl)
theorem dX0_lucks_37 : decode cX0_lucks 37 = .ok (.istore 6, 2) := dk_54 6 (dk_at dksX0_lucks_1 15 rfl rfl)
theorem dX0_lucks_39 : decode cX0_lucks 39 = .ok (.iconst 0, 1) := dk_3 (dk_at dksX0_lucks_1 17 rfl rfl)
theorem dX0_lucks_40 : decode cX0_lucks 40 = .ok (.istore 7, 2) := dk_54 7 (dk_at dksX0_lucks_1 18 rfl rfl)
theorem dX0_lucks_42 : decode cX0_lucks 42 = .ok (.iconst (-1), 1) := dk_2 (dk_at dksX0_lucks_1 20 rfl rfl)
theorem dX0_lucks_43 : decode cX0_lucks 43 = .ok (.istore 8, 2) := dk_54 8 (dk_at dksX0_lucks_1 21 rfl rfl)
theorem dX0_lucks_45 : decode cX0_lucks 45 = .ok (.iconst 0, 1) := dk_3 (dk_at dksX0_lucks_1 23 rfl rfl)
theorem dX0_lucks_46 : decode cX0_lucks 46 = .ok (.istore 9, 2) := dk_54 9 (dk_at dksX0_lucks_2 0 rfl rfl)
theorem dX0_lucks_48 : decode cX0_lucks 48 = .ok (.iload 9, 2) := dk_21 9 (dk_at dksX0_lucks_2 2 rfl rfl)
theorem dX0_lucks_50 : decode cX0_lucks 50 = .ok (.bipush 99, 2) := dk_16 99 (dk_at dksX0_lucks_2 4 rfl rfl)
theorem dX0_lucks_52 : decode cX0_lucks 52 = .ok (.if_icmp .gt 64, 3) := dk_163 0 64 (dk_at dksX0_lucks_2 6 rfl rfl)
theorem dX0_lucks_55 : decode cX0_lucks 55 = .ok (.aload_n 0, 1) := dk_42 (dk_at dksX0_lucks_2 9 rfl rfl)
theorem dX0_lucks_56 : decode cX0_lucks 56 = .ok (.iload_n 3, 1) := dk_29 (dk_at dksX0_lucks_2 10 rfl rfl)
theorem dX0_lucks_57 : decode cX0_lucks 57 = .ok (.iconst 2, 1) := dk_5 (dk_at dksX0_lucks_2 11 rfl rfl)
theorem dX0_lucks_58 : decode cX0_lucks 58 = .ok (.iload 9, 2) := dk_21 9 (dk_at dksX0_lucks_2 12 rfl rfl)
theorem dX0_lucks_60 : decode cX0_lucks 60 = .ok (.invokevirtual 182, 3) := dk_182 0 182 (dk_at dksX0_lucks_2 14 rfl rfl)
theorem dX0_lucks_63 : decode cX0_lucks 63 = .ok (.aload_n 0, 1) := dk_42 (dk_at dksX0_lucks_2 17 rfl rfl)
theorem dX0_lucks_64 : decode cX0_lucks 64 = .ok (.iload_n 1, 1) := dk_27 (dk_at dksX0_lucks_2 18 rfl rfl)
theorem dX0_lucks_65 : decode cX0_lucks 65 = .ok (.iload_n 2, 1) := dk_28 (dk_at dksX0_lucks_2 19 rfl rfl)
theorem dX0_lucks_66 : decode cX0_lucks 66 = .ok (.iload_n 3, 1) := dk_29 (dk_at dksX0_lucks_2 20 rfl rfl)
theorem dX0_lucks_67 : decode cX0_lucks 67 = .ok (.invokevirtual 289, 3) := dk_182 1 33 (dk_at dksX0_lucks_2 21 rfl rfl)
theorem dX0_lucks_70 : decode cX0_lucks 70 = .ok (.iconst (-1), 1) := dk_2 (dk_at dksX0_lucks_3 0 rfl rfl)
theorem dX0_lucks_71 : decode cX0_lucks 71 = .ok (.if_icmp .ne 7, 3) := dk_160 0 7 (dk_at dksX0_lucks_3 1 rfl rfl)
theorem dX0_lucks_74 : decode cX0_lucks 74 = .ok (.iconst 1, 1) := dk_4 (dk_at dksX0_lucks_3 4 rfl rfl)
theorem dX0_lucks_75 : decode cX0_lucks 75 = .ok (.goto 4, 3) := dk_167 0 4 (dk_at dksX0_lucks_3 5 rfl rfl)
theorem dX0_lucks_78 : decode cX0_lucks 78 = .ok (.iconst 0, 1) := dk_3 (dk_at dksX0_lucks_3 8 rfl rfl)
theorem dX0_lucks_79 : decode cX0_lucks 79 = .ok (.istore 10, 2) := dk_54 10 (dk_at dksX0_lucks_3 9 rfl rfl)
theorem dX0_lucks_81 : decode cX0_lucks 81 = .ok (.aload_n 0, 1) := dk_42 (dk_at dksX0_lucks_3 11 rfl rfl)
theorem dX0_lucks_82 : decode cX0_lucks 82 = .ok (.iload_n 3, 1) := dk_29 (dk_at dksX0_lucks_3 12 rfl rfl)
theorem dX0_lucks_83 : decode cX0_lucks 83 = .ok (.iconst 2, 1) := dk_5 (dk_at dksX0_lucks_3 13 rfl rfl)
theorem dX0_lucks_84 : decode cX0_lucks 84 = .ok (.iload 6, 2) := dk_21 6 (dk_at dksX0_lucks_3 14 rfl rfl)
theorem dX0_lucks_86 : decode cX0_lucks 86 = .ok (.invokevirtual 182, 3) := dk_182 0 182 (dk_at dksX0_lucks_3 16 rfl rfl)
theorem dX0_lucks_89 : decode cX0_lucks 89 = .ok (.iload 10, 2) := dk_21 10 (dk_at dksX0_lucks_3 19 rfl rfl)
theorem dX0_lucks_91 : decode cX0_lucks 91 = .ok (.ifCond .ne 6, 3) := dk_154 0 6 (dk_at dksX0_lucks_3 21 rfl rfl)
theorem dX0_lucks_94 : decode cX0_lucks 94 = .ok (.goto 16, 3) := dk_167 0 16 (dk_at dksX0_lucks_4 0 rfl rfl)
theorem dX0_lucks_97 : decode cX0_lucks 97 = .ok (.iinc 7 1, 3) := dk_132 7 1 (dk_at dksX0_lucks_4 3 rfl rfl)
theorem dX0_lucks_100 : decode cX0_lucks 100 = .ok (.iload 8, 2) := dk_21 8 (dk_at dksX0_lucks_4 6 rfl rfl)
theorem dX0_lucks_102 : decode cX0_lucks 102 = .ok (.iconst (-1), 1) := dk_2 (dk_at dksX0_lucks_4 8 rfl rfl)
theorem dX0_lucks_103 : decode cX0_lucks 103 = .ok (.if_icmp .ne 7, 3) := dk_160 0 7 (dk_at dksX0_lucks_4 9 rfl rfl)
theorem dX0_lucks_106 : decode cX0_lucks 106 = .ok (.iload 9, 2) := dk_21 9 (dk_at dksX0_lucks_4 12 rfl rfl)
theorem dX0_lucks_108 : decode cX0_lucks 108 = .ok (.istore 8, 2) := dk_54 8 (dk_at dksX0_lucks_4 14 rfl rfl)
theorem dX0_lucks_110 : decode cX0_lucks 110 = .ok (.iinc 9 1, 3) := dk_132 9 1 (dk_at dksX0_lucks_4 16 rfl rfl)
theorem dX0_lucks_113 : decode cX0_lucks 113 = .ok (.goto (-65), 3) := dk_167 255 191 (dk_at dksX0_lucks_4 19 rfl rfl)
theorem dX0_lucks_116 : decode cX0_lucks 116 = .ok (.iload 4, 2) := dk_21 4 (dk_at dksX0_lucks_4 22 rfl rfl)
theorem dX0_lucks_118 : decode cX0_lucks 118 = .ok (.ifCond .ne 8, 3) := dk_154 0 8 (dk_at dksX0_lucks_5 0 rfl rfl)
theorem dX0_lucks_121 : decode cX0_lucks 121 = .ok (.iload 7, 2) := dk_21 7 (dk_at dksX0_lucks_5 3 rfl rfl)
theorem dX0_lucks_123 : decode cX0_lucks 123 = .ok (.goto 5, 3) := dk_167 0 5 (dk_at dksX0_lucks_5 5 rfl rfl)
theorem dX0_lucks_126 : decode cX0_lucks 126 = .ok (.iload 8, 2) := dk_21 8 (dk_at dksX0_lucks_5 8 rfl rfl)
theorem dX0_lucks_128 : decode cX0_lucks 128 = .ok (.ireturn, 1) := dk_172 (dk_at dksX0_lucks_5 10 rfl rfl)
abbrev cX0_whose : ByteArray := prog_1_method_48_code
def yX0_whose : MethodName := ⟨RX0, "whose", "(II)I"⟩
def dkwX0_whose_2 : List UInt8 := [160, 0, 12, 21, 4, 4, 21, 5, 120, 128, 54, 4, 132, 5, 1, 167, 255, 220, 21, 4, 172]
abbrev dktX0_whose_2 : List UInt8 := dkwX0_whose_2 ++ []
def dkwX0_whose_1 : List UInt8 := [54, 5, 21, 5, 42, 180, 0, 25, 182, 0, 86, 162, 0, 30, 42, 27, 28, 21, 5, 182, 1, 33, 2]
abbrev dktX0_whose_1 : List UInt8 := dkwX0_whose_1 ++ dktX0_whose_2
def dkwX0_whose_0 : List UInt8 := [42, 27, 28, 3, 182, 1, 30, 62, 29, 153, 0, 11, 29, 16, 251, 159, 0, 5, 29, 172, 3, 54, 4, 3]
abbrev dktX0_whose_0 : List UInt8 := dkwX0_whose_0 ++ dktX0_whose_1
theorem dksX0_whose_0 : cX0_whose.data.toList.drop 0 = dktX0_whose_0 := by decide +kernel
theorem dksX0_whose_1 : cX0_whose.data.toList.drop 24 = dktX0_whose_1 := dk_seg dksX0_whose_0 24 rfl rfl
theorem dksX0_whose_2 : cX0_whose.data.toList.drop 47 = dktX0_whose_2 := dk_seg dksX0_whose_1 23 rfl rfl
theorem dX0_whose_0 : decode cX0_whose 0 = .ok (.aload_n 0, 1) := dk_42 (dk_at dksX0_whose_0 0 rfl rfl)
theorem dX0_whose_1 : decode cX0_whose 1 = .ok (.iload_n 1, 1) := dk_27 (dk_at dksX0_whose_0 1 rfl rfl)
theorem dX0_whose_2 : decode cX0_whose 2 = .ok (.iload_n 2, 1) := dk_28 (dk_at dksX0_whose_0 2 rfl rfl)
theorem dX0_whose_3 : decode cX0_whose 3 = .ok (.iconst 0, 1) := dk_3 (dk_at dksX0_whose_0 3 rfl rfl)
theorem dX0_whose_4 : decode cX0_whose 4 = .ok (.invokevirtual 286, 3) := dk_182 1 30 (dk_at dksX0_whose_0 4 rfl rfl)
theorem dX0_whose_7 : decode cX0_whose 7 = .ok (.istore_n 3, 1) := dk_62 (dk_at dksX0_whose_0 7 rfl rfl)
theorem dX0_whose_8 : decode cX0_whose 8 = .ok (.iload_n 3, 1) := dk_29 (dk_at dksX0_whose_0 8 rfl rfl)
theorem dX0_whose_9 : decode cX0_whose 9 = .ok (.ifCond .eq 11, 3) := dk_153 0 11 (dk_at dksX0_whose_0 9 rfl rfl)
theorem dX0_whose_12 : decode cX0_whose 12 = .ok (.iload_n 3, 1) := dk_29 (dk_at dksX0_whose_0 12 rfl rfl)
theorem dX0_whose_13 : decode cX0_whose 13 = .ok (.bipush (-5), 2) := dk_16 251 (dk_at dksX0_whose_0 13 rfl rfl)
theorem dX0_whose_15 : decode cX0_whose 15 = .ok (.if_icmp .eq 5, 3) := dk_159 0 5 (dk_at dksX0_whose_0 15 rfl rfl)
theorem dX0_whose_18 : decode cX0_whose 18 = .ok (.iload_n 3, 1) := dk_29 (dk_at dksX0_whose_0 18 rfl rfl)
theorem dX0_whose_19 : decode cX0_whose 19 = .ok (.ireturn, 1) := dk_172 (dk_at dksX0_whose_0 19 rfl rfl)
theorem dX0_whose_20 : decode cX0_whose 20 = .ok (.iconst 0, 1) := dk_3 (dk_at dksX0_whose_0 20 rfl rfl)
theorem dX0_whose_21 : decode cX0_whose 21 = .ok (.istore 4, 2) := dk_54 4 (dk_at dksX0_whose_0 21 rfl rfl)
theorem dX0_whose_23 : decode cX0_whose 23 = .ok (.iconst 0, 1) := dk_3 (dk_at dksX0_whose_0 23 rfl rfl)
theorem dX0_whose_24 : decode cX0_whose 24 = .ok (.istore 5, 2) := dk_54 5 (dk_at dksX0_whose_1 0 rfl rfl)
theorem dX0_whose_26 : decode cX0_whose 26 = .ok (.iload 5, 2) := dk_21 5 (dk_at dksX0_whose_1 2 rfl rfl)
theorem dX0_whose_28 : decode cX0_whose 28 = .ok (.aload_n 0, 1) := dk_42 (dk_at dksX0_whose_1 4 rfl rfl)
theorem dX0_whose_29 : decode cX0_whose 29 = .ok (.getfield 25, 3) := dk_180 0 25 (dk_at dksX0_whose_1 5 rfl rfl)
theorem dX0_whose_32 : decode cX0_whose 32 = .ok (.invokevirtual 86, 3) := dk_182 0 86 (dk_at dksX0_whose_1 8 rfl rfl)
theorem dX0_whose_35 : decode cX0_whose 35 = .ok (.if_icmp .ge 30, 3) := dk_162 0 30 (dk_at dksX0_whose_1 11 rfl rfl)
theorem dX0_whose_38 : decode cX0_whose 38 = .ok (.aload_n 0, 1) := dk_42 (dk_at dksX0_whose_1 14 rfl rfl)
theorem dX0_whose_39 : decode cX0_whose 39 = .ok (.iload_n 1, 1) := dk_27 (dk_at dksX0_whose_1 15 rfl rfl)
theorem dX0_whose_40 : decode cX0_whose 40 = .ok (.iload_n 2, 1) := dk_28 (dk_at dksX0_whose_1 16 rfl rfl)
theorem dX0_whose_41 : decode cX0_whose 41 = .ok (.iload 5, 2) := dk_21 5 (dk_at dksX0_whose_1 17 rfl rfl)
theorem dX0_whose_43 : decode cX0_whose 43 = .ok (.invokevirtual 289, 3) := dk_182 1 33 (dk_at dksX0_whose_1 19 rfl rfl)
theorem dX0_whose_46 : decode cX0_whose 46 = .ok (.iconst (-1), 1) := dk_2 (dk_at dksX0_whose_1 22 rfl rfl)
theorem dX0_whose_47 : decode cX0_whose 47 = .ok (.if_icmp .ne 12, 3) := dk_160 0 12 (dk_at dksX0_whose_2 0 rfl rfl)
theorem dX0_whose_50 : decode cX0_whose 50 = .ok (.iload 4, 2) := dk_21 4 (dk_at dksX0_whose_2 3 rfl rfl)
theorem dX0_whose_52 : decode cX0_whose 52 = .ok (.iconst 1, 1) := dk_4 (dk_at dksX0_whose_2 5 rfl rfl)
theorem dX0_whose_53 : decode cX0_whose 53 = .ok (.iload 5, 2) := dk_21 5 (dk_at dksX0_whose_2 6 rfl rfl)
theorem dX0_whose_55 : decode cX0_whose 55 = .ok (.ishl, 1) := dk_120 (dk_at dksX0_whose_2 8 rfl rfl)
theorem dX0_whose_56 : decode cX0_whose 56 = .ok (.ior, 1) := dk_128 (dk_at dksX0_whose_2 9 rfl rfl)
theorem dX0_whose_57 : decode cX0_whose 57 = .ok (.istore 4, 2) := dk_54 4 (dk_at dksX0_whose_2 10 rfl rfl)
theorem dX0_whose_59 : decode cX0_whose 59 = .ok (.iinc 5 1, 3) := dk_132 5 1 (dk_at dksX0_whose_2 12 rfl rfl)
theorem dX0_whose_62 : decode cX0_whose 62 = .ok (.goto (-36), 3) := dk_167 255 220 (dk_at dksX0_whose_2 15 rfl rfl)
theorem dX0_whose_65 : decode cX0_whose 65 = .ok (.iload 4, 2) := dk_21 4 (dk_at dksX0_whose_2 18 rfl rfl)
theorem dX0_whose_67 : decode cX0_whose 67 = .ok (.ireturn, 1) := dk_172 (dk_at dksX0_whose_2 20 rfl rfl)
abbrev cX0_laws : ByteArray := prog_1_method_49_code
def yX0_laws : MethodName := ⟨RX0, "laws", "(III)I"⟩
def dkwX0_laws_4 : List UInt8 := [21, 5, 181, 0, 102, 25, 8, 191]
abbrev dktX0_laws_4 : List UInt8 := dkwX0_laws_4 ++ []
def dkwX0_laws_3 : List UInt8 := [96, 181, 0, 102, 167, 255, 213, 21, 6, 54, 7, 42, 21, 5, 181, 0, 102, 21, 7, 172, 58, 8, 42]
abbrev dktX0_laws_3 : List UInt8 := dkwX0_laws_3 ++ dktX0_laws_4
def dkwX0_laws_2 : List UInt8 := [182, 1, 33, 2, 160, 0, 14, 21, 6, 4, 42, 180, 0, 102, 120, 128, 54, 6, 42, 89, 180, 0, 102, 4]
abbrev dktX0_laws_2 : List UInt8 := dkwX0_laws_2 ++ dktX0_laws_3
def dkwX0_laws_1 : List UInt8 := [54, 6, 42, 3, 181, 0, 102, 42, 180, 0, 102, 42, 180, 0, 83, 162, 0, 38, 42, 27, 28, 29]
abbrev dktX0_laws_1 : List UInt8 := dkwX0_laws_1 ++ dktX0_laws_2
def dkwX0_laws_0 : List UInt8 := [42, 27, 28, 29, 182, 1, 30, 54, 4, 21, 4, 153, 0, 6, 21, 4, 172, 42, 180, 0, 102, 54, 5, 3]
abbrev dktX0_laws_0 : List UInt8 := dkwX0_laws_0 ++ dktX0_laws_1
theorem dksX0_laws_0 : cX0_laws.data.toList.drop 0 = dktX0_laws_0 := by decide +kernel
theorem dksX0_laws_1 : cX0_laws.data.toList.drop 24 = dktX0_laws_1 := dk_seg dksX0_laws_0 24 rfl rfl
theorem dksX0_laws_2 : cX0_laws.data.toList.drop 46 = dktX0_laws_2 := dk_seg dksX0_laws_1 22 rfl rfl
theorem dksX0_laws_3 : cX0_laws.data.toList.drop 70 = dktX0_laws_3 := dk_seg dksX0_laws_2 24 rfl rfl
theorem dksX0_laws_4 : cX0_laws.data.toList.drop 93 = dktX0_laws_4 := dk_seg dksX0_laws_3 23 rfl rfl
theorem dX0_laws_0 : decode cX0_laws 0 = .ok (.aload_n 0, 1) := dk_42 (dk_at dksX0_laws_0 0 rfl rfl)
theorem dX0_laws_1 : decode cX0_laws 1 = .ok (.iload_n 1, 1) := dk_27 (dk_at dksX0_laws_0 1 rfl rfl)
theorem dX0_laws_2 : decode cX0_laws 2 = .ok (.iload_n 2, 1) := dk_28 (dk_at dksX0_laws_0 2 rfl rfl)
theorem dX0_laws_3 : decode cX0_laws 3 = .ok (.iload_n 3, 1) := dk_29 (dk_at dksX0_laws_0 3 rfl rfl)
theorem dX0_laws_4 : decode cX0_laws 4 = .ok (.invokevirtual 286, 3) := dk_182 1 30 (dk_at dksX0_laws_0 4 rfl rfl)
theorem dX0_laws_7 : decode cX0_laws 7 = .ok (.istore 4, 2) := dk_54 4 (dk_at dksX0_laws_0 7 rfl rfl)
theorem dX0_laws_9 : decode cX0_laws 9 = .ok (.iload 4, 2) := dk_21 4 (dk_at dksX0_laws_0 9 rfl rfl)
theorem dX0_laws_11 : decode cX0_laws 11 = .ok (.ifCond .eq 6, 3) := dk_153 0 6 (dk_at dksX0_laws_0 11 rfl rfl)
theorem dX0_laws_14 : decode cX0_laws 14 = .ok (.iload 4, 2) := dk_21 4 (dk_at dksX0_laws_0 14 rfl rfl)
theorem dX0_laws_16 : decode cX0_laws 16 = .ok (.ireturn, 1) := dk_172 (dk_at dksX0_laws_0 16 rfl rfl)
theorem dX0_laws_17 : decode cX0_laws 17 = .ok (.aload_n 0, 1) := dk_42 (dk_at dksX0_laws_0 17 rfl rfl)
theorem dX0_laws_18 : decode cX0_laws 18 = .ok (.getfield 102, 3) := dk_180 0 102 (dk_at dksX0_laws_0 18 rfl rfl)
theorem dX0_laws_21 : decode cX0_laws 21 = .ok (.istore 5, 2) := dk_54 5 (dk_at dksX0_laws_0 21 rfl rfl)
theorem dX0_laws_23 : decode cX0_laws 23 = .ok (.iconst 0, 1) := dk_3 (dk_at dksX0_laws_0 23 rfl rfl)
theorem dX0_laws_24 : decode cX0_laws 24 = .ok (.istore 6, 2) := dk_54 6 (dk_at dksX0_laws_1 0 rfl rfl)
theorem dX0_laws_26 : decode cX0_laws 26 = .ok (.aload_n 0, 1) := dk_42 (dk_at dksX0_laws_1 2 rfl rfl)
theorem dX0_laws_27 : decode cX0_laws 27 = .ok (.iconst 0, 1) := dk_3 (dk_at dksX0_laws_1 3 rfl rfl)
theorem dX0_laws_28 : decode cX0_laws 28 = .ok (.putfield 102, 3) := dk_181 0 102 (dk_at dksX0_laws_1 4 rfl rfl)
theorem dX0_laws_31 : decode cX0_laws 31 = .ok (.aload_n 0, 1) := dk_42 (dk_at dksX0_laws_1 7 rfl rfl)
theorem dX0_laws_32 : decode cX0_laws 32 = .ok (.getfield 102, 3) := dk_180 0 102 (dk_at dksX0_laws_1 8 rfl rfl)
theorem dX0_laws_35 : decode cX0_laws 35 = .ok (.aload_n 0, 1) := dk_42 (dk_at dksX0_laws_1 11 rfl rfl)
theorem dX0_laws_36 : decode cX0_laws 36 = .ok (.getfield 83, 3) := dk_180 0 83 (dk_at dksX0_laws_1 12 rfl rfl)
theorem dX0_laws_39 : decode cX0_laws 39 = .ok (.if_icmp .ge 38, 3) := dk_162 0 38 (dk_at dksX0_laws_1 15 rfl rfl)
theorem dX0_laws_42 : decode cX0_laws 42 = .ok (.aload_n 0, 1) := dk_42 (dk_at dksX0_laws_1 18 rfl rfl)
theorem dX0_laws_43 : decode cX0_laws 43 = .ok (.iload_n 1, 1) := dk_27 (dk_at dksX0_laws_1 19 rfl rfl)
theorem dX0_laws_44 : decode cX0_laws 44 = .ok (.iload_n 2, 1) := dk_28 (dk_at dksX0_laws_1 20 rfl rfl)
theorem dX0_laws_45 : decode cX0_laws 45 = .ok (.iload_n 3, 1) := dk_29 (dk_at dksX0_laws_1 21 rfl rfl)
theorem dX0_laws_46 : decode cX0_laws 46 = .ok (.invokevirtual 289, 3) := dk_182 1 33 (dk_at dksX0_laws_2 0 rfl rfl)
theorem dX0_laws_49 : decode cX0_laws 49 = .ok (.iconst (-1), 1) := dk_2 (dk_at dksX0_laws_2 3 rfl rfl)
theorem dX0_laws_50 : decode cX0_laws 50 = .ok (.if_icmp .ne 14, 3) := dk_160 0 14 (dk_at dksX0_laws_2 4 rfl rfl)
theorem dX0_laws_53 : decode cX0_laws 53 = .ok (.iload 6, 2) := dk_21 6 (dk_at dksX0_laws_2 7 rfl rfl)
theorem dX0_laws_55 : decode cX0_laws 55 = .ok (.iconst 1, 1) := dk_4 (dk_at dksX0_laws_2 9 rfl rfl)
theorem dX0_laws_56 : decode cX0_laws 56 = .ok (.aload_n 0, 1) := dk_42 (dk_at dksX0_laws_2 10 rfl rfl)
theorem dX0_laws_57 : decode cX0_laws 57 = .ok (.getfield 102, 3) := dk_180 0 102 (dk_at dksX0_laws_2 11 rfl rfl)
theorem dX0_laws_60 : decode cX0_laws 60 = .ok (.ishl, 1) := dk_120 (dk_at dksX0_laws_2 14 rfl rfl)
theorem dX0_laws_61 : decode cX0_laws 61 = .ok (.ior, 1) := dk_128 (dk_at dksX0_laws_2 15 rfl rfl)
theorem dX0_laws_62 : decode cX0_laws 62 = .ok (.istore 6, 2) := dk_54 6 (dk_at dksX0_laws_2 16 rfl rfl)
theorem dX0_laws_64 : decode cX0_laws 64 = .ok (.aload_n 0, 1) := dk_42 (dk_at dksX0_laws_2 18 rfl rfl)
theorem dX0_laws_65 : decode cX0_laws 65 = .ok (.dup, 1) := dk_89 (dk_at dksX0_laws_2 19 rfl rfl)
theorem dX0_laws_66 : decode cX0_laws 66 = .ok (.getfield 102, 3) := dk_180 0 102 (dk_at dksX0_laws_2 20 rfl rfl)
theorem dX0_laws_69 : decode cX0_laws 69 = .ok (.iconst 1, 1) := dk_4 (dk_at dksX0_laws_2 23 rfl rfl)
theorem dX0_laws_70 : decode cX0_laws 70 = .ok (.iadd, 1) := dk_96 (dk_at dksX0_laws_3 0 rfl rfl)
theorem dX0_laws_71 : decode cX0_laws 71 = .ok (.putfield 102, 3) := dk_181 0 102 (dk_at dksX0_laws_3 1 rfl rfl)
theorem dX0_laws_74 : decode cX0_laws 74 = .ok (.goto (-43), 3) := dk_167 255 213 (dk_at dksX0_laws_3 4 rfl rfl)
theorem dX0_laws_77 : decode cX0_laws 77 = .ok (.iload 6, 2) := dk_21 6 (dk_at dksX0_laws_3 7 rfl rfl)
theorem dX0_laws_79 : decode cX0_laws 79 = .ok (.istore 7, 2) := dk_54 7 (dk_at dksX0_laws_3 9 rfl rfl)
theorem dX0_laws_81 : decode cX0_laws 81 = .ok (.aload_n 0, 1) := dk_42 (dk_at dksX0_laws_3 11 rfl rfl)
theorem dX0_laws_82 : decode cX0_laws 82 = .ok (.iload 5, 2) := dk_21 5 (dk_at dksX0_laws_3 12 rfl rfl)
theorem dX0_laws_84 : decode cX0_laws 84 = .ok (.putfield 102, 3) := dk_181 0 102 (dk_at dksX0_laws_3 14 rfl rfl)
theorem dX0_laws_87 : decode cX0_laws 87 = .ok (.iload 7, 2) := dk_21 7 (dk_at dksX0_laws_3 17 rfl rfl)
theorem dX0_laws_89 : decode cX0_laws 89 = .ok (.ireturn, 1) := dk_172 (dk_at dksX0_laws_3 19 rfl rfl)
theorem dX0_laws_90 : decode cX0_laws 90 = .ok (.astore 8, 2) := dk_58 8 (dk_at dksX0_laws_3 20 rfl rfl)
theorem dX0_laws_92 : decode cX0_laws 92 = .ok (.aload_n 0, 1) := dk_42 (dk_at dksX0_laws_3 22 rfl rfl)
theorem dX0_laws_93 : decode cX0_laws 93 = .ok (.iload 5, 2) := dk_21 5 (dk_at dksX0_laws_4 0 rfl rfl)
theorem dX0_laws_95 : decode cX0_laws 95 = .ok (.putfield 102, 3) := dk_181 0 102 (dk_at dksX0_laws_4 2 rfl rfl)
theorem dX0_laws_98 : decode cX0_laws 98 = .ok (.aload 8, 2) := dk_25 8 (dk_at dksX0_laws_4 5 rfl rfl)
theorem dX0_laws_100 : decode cX0_laws 100 = .ok (.athrow, 1) := dk_191 (dk_at dksX0_laws_4 7 rfl rfl)
abbrev cX0_film : ByteArray := prog_1_method_50_code
def yX0_film : MethodName := ⟨RX0, "film", "(III)I"⟩
def dkwX0_film_6 : List UInt8 := [167, 255, 206, 42, 42, 180, 0, 38, 182, 1, 10, 25, 5, 180, 0, 252, 172]
abbrev dktX0_film_6 : List UInt8 := dkwX0_film_6 ++ []
def dkwX0_film_5 : List UInt8 := [42, 182, 0, 231, 87, 25, 5, 180, 0, 254, 21, 6, 42, 180, 0, 35, 29, 46, 79, 132, 6, 1]
abbrev dktX0_film_5 : List UInt8 := dkwX0_film_5 ++ dktX0_film_6
def dkwX0_film_4 : List UInt8 := [180, 0, 252, 162, 0, 46, 42, 29, 42, 180, 0, 73, 27, 50, 180, 0, 254, 21, 6, 46, 182, 0, 211, 87]
abbrev dktX0_film_4 : List UInt8 := dkwX0_film_4 ++ dktX0_film_5
def dkwX0_film_3 : List UInt8 := [180, 0, 254, 3, 184, 1, 40, 42, 42, 180, 0, 38, 182, 1, 6, 3, 54, 6, 21, 6, 25, 5]
abbrev dktX0_film_3 : List UInt8 := dkwX0_film_3 ++ dktX0_film_4
def dkwX0_film_2 : List UInt8 := [58, 5, 25, 5, 3, 181, 0, 249, 25, 5, 42, 180, 0, 73, 27, 50, 180, 0, 252, 181, 0, 252, 25, 5]
abbrev dktX0_film_2 : List UInt8 := dkwX0_film_2 ++ dktX0_film_3
def dkwX0_film_1 : List UInt8 := [153, 0, 6, 21, 4, 172, 42, 29, 182, 0, 137, 154, 0, 6, 16, 251, 172, 42, 180, 0, 73, 28, 50]
abbrev dktX0_film_1 : List UInt8 := dkwX0_film_1 ++ dktX0_film_2
def dkwX0_film_0 : List UInt8 := [28, 184, 0, 246, 153, 0, 8, 27, 28, 160, 0, 6, 16, 254, 172, 42, 27, 182, 1, 1, 54, 4, 21, 4]
abbrev dktX0_film_0 : List UInt8 := dkwX0_film_0 ++ dktX0_film_1
theorem dksX0_film_0 : cX0_film.data.toList.drop 0 = dktX0_film_0 := by decide +kernel
theorem dksX0_film_1 : cX0_film.data.toList.drop 24 = dktX0_film_1 := dk_seg dksX0_film_0 24 rfl rfl
theorem dksX0_film_2 : cX0_film.data.toList.drop 47 = dktX0_film_2 := dk_seg dksX0_film_1 23 rfl rfl
theorem dksX0_film_3 : cX0_film.data.toList.drop 71 = dktX0_film_3 := dk_seg dksX0_film_2 24 rfl rfl
theorem dksX0_film_4 : cX0_film.data.toList.drop 93 = dktX0_film_4 := dk_seg dksX0_film_3 22 rfl rfl
theorem dksX0_film_5 : cX0_film.data.toList.drop 117 = dktX0_film_5 := dk_seg dksX0_film_4 24 rfl rfl
theorem dksX0_film_6 : cX0_film.data.toList.drop 139 = dktX0_film_6 := dk_seg dksX0_film_5 22 rfl rfl
theorem dX0_film_0 : decode cX0_film 0 = .ok (.iload_n 2, 1) := dk_28 (dk_at dksX0_film_0 0 rfl rfl)
theorem dX0_film_1 : decode cX0_film 1 = .ok (.invokestatic 246, 3) := dk_184 0 246 (dk_at dksX0_film_0 1 rfl rfl)
theorem dX0_film_4 : decode cX0_film 4 = .ok (.ifCond .eq 8, 3) := dk_153 0 8 (dk_at dksX0_film_0 4 rfl rfl)
theorem dX0_film_7 : decode cX0_film 7 = .ok (.iload_n 1, 1) := dk_27 (dk_at dksX0_film_0 7 rfl rfl)
theorem dX0_film_8 : decode cX0_film 8 = .ok (.iload_n 2, 1) := dk_28 (dk_at dksX0_film_0 8 rfl rfl)
theorem dX0_film_9 : decode cX0_film 9 = .ok (.if_icmp .ne 6, 3) := dk_160 0 6 (dk_at dksX0_film_0 9 rfl rfl)
theorem dX0_film_12 : decode cX0_film 12 = .ok (.bipush (-2), 2) := dk_16 254 (dk_at dksX0_film_0 12 rfl rfl)
theorem dX0_film_14 : decode cX0_film 14 = .ok (.ireturn, 1) := dk_172 (dk_at dksX0_film_0 14 rfl rfl)
theorem dX0_film_15 : decode cX0_film 15 = .ok (.aload_n 0, 1) := dk_42 (dk_at dksX0_film_0 15 rfl rfl)
theorem dX0_film_16 : decode cX0_film 16 = .ok (.iload_n 1, 1) := dk_27 (dk_at dksX0_film_0 16 rfl rfl)
theorem dX0_film_17 : decode cX0_film 17 = .ok (.invokevirtual 257, 3) := dk_182 1 1 (dk_at dksX0_film_0 17 rfl rfl)
theorem dX0_film_20 : decode cX0_film 20 = .ok (.istore 4, 2) := dk_54 4 (dk_at dksX0_film_0 20 rfl rfl)
theorem dX0_film_22 : decode cX0_film 22 = .ok (.iload 4, 2) := dk_21 4 (dk_at dksX0_film_0 22 rfl rfl)
theorem dX0_film_24 : decode cX0_film 24 = .ok (.ifCond .eq 6, 3) := dk_153 0 6 (dk_at dksX0_film_1 0 rfl rfl)
theorem dX0_film_27 : decode cX0_film 27 = .ok (.iload 4, 2) := dk_21 4 (dk_at dksX0_film_1 3 rfl rfl)
theorem dX0_film_29 : decode cX0_film 29 = .ok (.ireturn, 1) := dk_172 (dk_at dksX0_film_1 5 rfl rfl)
theorem dX0_film_30 : decode cX0_film 30 = .ok (.aload_n 0, 1) := dk_42 (dk_at dksX0_film_1 6 rfl rfl)
theorem dX0_film_31 : decode cX0_film 31 = .ok (.iload_n 3, 1) := dk_29 (dk_at dksX0_film_1 7 rfl rfl)
theorem dX0_film_32 : decode cX0_film 32 = .ok (.invokevirtual 137, 3) := dk_182 0 137 (dk_at dksX0_film_1 8 rfl rfl)
theorem dX0_film_35 : decode cX0_film 35 = .ok (.ifCond .ne 6, 3) := dk_154 0 6 (dk_at dksX0_film_1 11 rfl rfl)
theorem dX0_film_38 : decode cX0_film 38 = .ok (.bipush (-5), 2) := dk_16 251 (dk_at dksX0_film_1 14 rfl rfl)
theorem dX0_film_40 : decode cX0_film 40 = .ok (.ireturn, 1) := dk_172 (dk_at dksX0_film_1 16 rfl rfl)
theorem dX0_film_41 : decode cX0_film 41 = .ok (.aload_n 0, 1) := dk_42 (dk_at dksX0_film_1 17 rfl rfl)
theorem dX0_film_42 : decode cX0_film 42 = .ok (.getfield 73, 3) := dk_180 0 73 (dk_at dksX0_film_1 18 rfl rfl)
theorem dX0_film_45 : decode cX0_film 45 = .ok (.iload_n 2, 1) := dk_28 (dk_at dksX0_film_1 21 rfl rfl)
theorem dX0_film_46 : decode cX0_film 46 = .ok (.aaload, 1) := dk_50 (dk_at dksX0_film_1 22 rfl rfl)
theorem dX0_film_47 : decode cX0_film 47 = .ok (.astore 5, 2) := dk_58 5 (dk_at dksX0_film_2 0 rfl rfl)
theorem dX0_film_49 : decode cX0_film 49 = .ok (.aload 5, 2) := dk_25 5 (dk_at dksX0_film_2 2 rfl rfl)
theorem dX0_film_51 : decode cX0_film 51 = .ok (.iconst 0, 1) := dk_3 (dk_at dksX0_film_2 4 rfl rfl)
theorem dX0_film_52 : decode cX0_film 52 = .ok (.putfield 249, 3) := dk_181 0 249 (dk_at dksX0_film_2 5 rfl rfl)
theorem dX0_film_55 : decode cX0_film 55 = .ok (.aload 5, 2) := dk_25 5 (dk_at dksX0_film_2 8 rfl rfl)
theorem dX0_film_57 : decode cX0_film 57 = .ok (.aload_n 0, 1) := dk_42 (dk_at dksX0_film_2 10 rfl rfl)
theorem dX0_film_58 : decode cX0_film 58 = .ok (.getfield 73, 3) := dk_180 0 73 (dk_at dksX0_film_2 11 rfl rfl)
theorem dX0_film_61 : decode cX0_film 61 = .ok (.iload_n 1, 1) := dk_27 (dk_at dksX0_film_2 14 rfl rfl)
theorem dX0_film_62 : decode cX0_film 62 = .ok (.aaload, 1) := dk_50 (dk_at dksX0_film_2 15 rfl rfl)
theorem dX0_film_63 : decode cX0_film 63 = .ok (.getfield 252, 3) := dk_180 0 252 (dk_at dksX0_film_2 16 rfl rfl)
theorem dX0_film_66 : decode cX0_film 66 = .ok (.putfield 252, 3) := dk_181 0 252 (dk_at dksX0_film_2 19 rfl rfl)
theorem dX0_film_69 : decode cX0_film 69 = .ok (.aload 5, 2) := dk_25 5 (dk_at dksX0_film_2 22 rfl rfl)
theorem dX0_film_71 : decode cX0_film 71 = .ok (.getfield 254, 3) := dk_180 0 254 (dk_at dksX0_film_3 0 rfl rfl)
theorem dX0_film_74 : decode cX0_film 74 = .ok (.iconst 0, 1) := dk_3 (dk_at dksX0_film_3 3 rfl rfl)
theorem dX0_film_75 : decode cX0_film 75 = .ok (.invokestatic 296, 3) := dk_184 1 40 (dk_at dksX0_film_3 4 rfl rfl)
theorem dX0_film_78 : decode cX0_film 78 = .ok (.aload_n 0, 1) := dk_42 (dk_at dksX0_film_3 7 rfl rfl)
theorem dX0_film_79 : decode cX0_film 79 = .ok (.aload_n 0, 1) := dk_42 (dk_at dksX0_film_3 8 rfl rfl)
theorem dX0_film_80 : decode cX0_film 80 = .ok (.getfield 38, 3) := dk_180 0 38 (dk_at dksX0_film_3 9 rfl rfl)
theorem dX0_film_83 : decode cX0_film 83 = .ok (.invokevirtual 262, 3) := dk_182 1 6 (dk_at dksX0_film_3 12 rfl rfl)
theorem dX0_film_86 : decode cX0_film 86 = .ok (.iconst 0, 1) := dk_3 (dk_at dksX0_film_3 15 rfl rfl)
theorem dX0_film_87 : decode cX0_film 87 = .ok (.istore 6, 2) := dk_54 6 (dk_at dksX0_film_3 16 rfl rfl)
theorem dX0_film_89 : decode cX0_film 89 = .ok (.iload 6, 2) := dk_21 6 (dk_at dksX0_film_3 18 rfl rfl)
theorem dX0_film_91 : decode cX0_film 91 = .ok (.aload 5, 2) := dk_25 5 (dk_at dksX0_film_3 20 rfl rfl)
theorem dX0_film_93 : decode cX0_film 93 = .ok (.getfield 252, 3) := dk_180 0 252 (dk_at dksX0_film_4 0 rfl rfl)
theorem dX0_film_96 : decode cX0_film 96 = .ok (.if_icmp .ge 46, 3) := dk_162 0 46 (dk_at dksX0_film_4 3 rfl rfl)
theorem dX0_film_99 : decode cX0_film 99 = .ok (.aload_n 0, 1) := dk_42 (dk_at dksX0_film_4 6 rfl rfl)
theorem dX0_film_100 : decode cX0_film 100 = .ok (.iload_n 3, 1) := dk_29 (dk_at dksX0_film_4 7 rfl rfl)
theorem dX0_film_101 : decode cX0_film 101 = .ok (.aload_n 0, 1) := dk_42 (dk_at dksX0_film_4 8 rfl rfl)
theorem dX0_film_102 : decode cX0_film 102 = .ok (.getfield 73, 3) := dk_180 0 73 (dk_at dksX0_film_4 9 rfl rfl)
theorem dX0_film_105 : decode cX0_film 105 = .ok (.iload_n 1, 1) := dk_27 (dk_at dksX0_film_4 12 rfl rfl)
theorem dX0_film_106 : decode cX0_film 106 = .ok (.aaload, 1) := dk_50 (dk_at dksX0_film_4 13 rfl rfl)
theorem dX0_film_107 : decode cX0_film 107 = .ok (.getfield 254, 3) := dk_180 0 254 (dk_at dksX0_film_4 14 rfl rfl)
theorem dX0_film_110 : decode cX0_film 110 = .ok (.iload 6, 2) := dk_21 6 (dk_at dksX0_film_4 17 rfl rfl)
theorem dX0_film_112 : decode cX0_film 112 = .ok (.iaload, 1) := dk_46 (dk_at dksX0_film_4 19 rfl rfl)
theorem dX0_film_113 : decode cX0_film 113 = .ok (.invokevirtual 211, 3) := dk_182 0 211 (dk_at dksX0_film_4 20 rfl rfl)
theorem dX0_film_116 : decode cX0_film 116 = .ok (.pop, 1) := dk_87 (dk_at dksX0_film_4 23 rfl rfl)
theorem dX0_film_117 : decode cX0_film 117 = .ok (.aload_n 0, 1) := dk_42 (dk_at dksX0_film_5 0 rfl rfl)
theorem dX0_film_118 : decode cX0_film 118 = .ok (.invokevirtual 231, 3) := dk_182 0 231 (dk_at dksX0_film_5 1 rfl rfl)
theorem dX0_film_121 : decode cX0_film 121 = .ok (.pop, 1) := dk_87 (dk_at dksX0_film_5 4 rfl rfl)
theorem dX0_film_122 : decode cX0_film 122 = .ok (.aload 5, 2) := dk_25 5 (dk_at dksX0_film_5 5 rfl rfl)
theorem dX0_film_124 : decode cX0_film 124 = .ok (.getfield 254, 3) := dk_180 0 254 (dk_at dksX0_film_5 7 rfl rfl)
theorem dX0_film_127 : decode cX0_film 127 = .ok (.iload 6, 2) := dk_21 6 (dk_at dksX0_film_5 10 rfl rfl)
theorem dX0_film_129 : decode cX0_film 129 = .ok (.aload_n 0, 1) := dk_42 (dk_at dksX0_film_5 12 rfl rfl)
theorem dX0_film_130 : decode cX0_film 130 = .ok (.getfield 35, 3) := dk_180 0 35 (dk_at dksX0_film_5 13 rfl rfl)
theorem dX0_film_133 : decode cX0_film 133 = .ok (.iload_n 3, 1) := dk_29 (dk_at dksX0_film_5 16 rfl rfl)
theorem dX0_film_134 : decode cX0_film 134 = .ok (.iaload, 1) := dk_46 (dk_at dksX0_film_5 17 rfl rfl)
theorem dX0_film_135 : decode cX0_film 135 = .ok (.iastore, 1) := dk_79 (dk_at dksX0_film_5 18 rfl rfl)
theorem dX0_film_136 : decode cX0_film 136 = .ok (.iinc 6 1, 3) := dk_132 6 1 (dk_at dksX0_film_5 19 rfl rfl)
theorem dX0_film_139 : decode cX0_film 139 = .ok (.goto (-50), 3) := dk_167 255 206 (dk_at dksX0_film_6 0 rfl rfl)
theorem dX0_film_142 : decode cX0_film 142 = .ok (.aload_n 0, 1) := dk_42 (dk_at dksX0_film_6 3 rfl rfl)
theorem dX0_film_143 : decode cX0_film 143 = .ok (.aload_n 0, 1) := dk_42 (dk_at dksX0_film_6 4 rfl rfl)
theorem dX0_film_144 : decode cX0_film 144 = .ok (.getfield 38, 3) := dk_180 0 38 (dk_at dksX0_film_6 5 rfl rfl)
theorem dX0_film_147 : decode cX0_film 147 = .ok (.invokevirtual 266, 3) := dk_182 1 10 (dk_at dksX0_film_6 8 rfl rfl)
theorem dX0_film_150 : decode cX0_film 150 = .ok (.aload 5, 2) := dk_25 5 (dk_at dksX0_film_6 11 rfl rfl)
theorem dX0_film_152 : decode cX0_film 152 = .ok (.getfield 252, 3) := dk_180 0 252 (dk_at dksX0_film_6 13 rfl rfl)
theorem dX0_film_155 : decode cX0_film 155 = .ok (.ireturn, 1) := dk_172 (dk_at dksX0_film_6 16 rfl rfl)
abbrev cX0_drawn : ByteArray := prog_1_method_52_code
def yX0_drawn : MethodName := ⟨RX0, "drawn", "(III)I"⟩
def dkwX0_drawn_2 : List UInt8 := [154, 0, 8, 21, 4, 167, 0, 7, 42, 180, 1, 54, 172]
abbrev dktX0_drawn_2 : List UInt8 := dkwX0_drawn_2 ++ []
def dkwX0_drawn_1 : List UInt8 := [29, 133, 9, 10, 184, 0, 108, 154, 0, 6, 16, 254, 172, 42, 27, 28, 182, 1, 61, 54, 4, 29]
abbrev dktX0_drawn_1 : List UInt8 := dkwX0_drawn_1 ++ dktX0_drawn_2
def dkwX0_drawn_0 : List UInt8 := [27, 133, 9, 20, 1, 57, 184, 0, 108, 153, 0, 25, 28, 133, 9, 20, 1, 59, 184, 0, 108, 153, 0, 13]
abbrev dktX0_drawn_0 : List UInt8 := dkwX0_drawn_0 ++ dktX0_drawn_1
theorem dksX0_drawn_0 : cX0_drawn.data.toList.drop 0 = dktX0_drawn_0 := by decide +kernel
theorem dksX0_drawn_1 : cX0_drawn.data.toList.drop 24 = dktX0_drawn_1 := dk_seg dksX0_drawn_0 24 rfl rfl
theorem dksX0_drawn_2 : cX0_drawn.data.toList.drop 46 = dktX0_drawn_2 := dk_seg dksX0_drawn_1 22 rfl rfl
theorem dX0_drawn_0 : decode cX0_drawn 0 = .ok (.iload_n 1, 1) := dk_27 (dk_at dksX0_drawn_0 0 rfl rfl)
theorem dX0_drawn_1 : decode cX0_drawn 1 = .ok (.i2l, 1) := dk_133 (dk_at dksX0_drawn_0 1 rfl rfl)
theorem dX0_drawn_2 : decode cX0_drawn 2 = .ok (.lconst 0, 1) := dk_9 (dk_at dksX0_drawn_0 2 rfl rfl)
theorem dX0_drawn_3 : decode cX0_drawn 3 = .ok (.ldc2_w 313, 3) := dk_20 1 57 (dk_at dksX0_drawn_0 3 rfl rfl)
theorem dX0_drawn_6 : decode cX0_drawn 6 = .ok (.invokestatic 108, 3) := dk_184 0 108 (dk_at dksX0_drawn_0 6 rfl rfl)
theorem dX0_drawn_9 : decode cX0_drawn 9 = .ok (.ifCond .eq 25, 3) := dk_153 0 25 (dk_at dksX0_drawn_0 9 rfl rfl)
theorem dX0_drawn_12 : decode cX0_drawn 12 = .ok (.iload_n 2, 1) := dk_28 (dk_at dksX0_drawn_0 12 rfl rfl)
theorem dX0_drawn_13 : decode cX0_drawn 13 = .ok (.i2l, 1) := dk_133 (dk_at dksX0_drawn_0 13 rfl rfl)
theorem dX0_drawn_14 : decode cX0_drawn 14 = .ok (.lconst 0, 1) := dk_9 (dk_at dksX0_drawn_0 14 rfl rfl)
theorem dX0_drawn_15 : decode cX0_drawn 15 = .ok (.ldc2_w 315, 3) := dk_20 1 59 (dk_at dksX0_drawn_0 15 rfl rfl)
theorem dX0_drawn_18 : decode cX0_drawn 18 = .ok (.invokestatic 108, 3) := dk_184 0 108 (dk_at dksX0_drawn_0 18 rfl rfl)
theorem dX0_drawn_21 : decode cX0_drawn 21 = .ok (.ifCond .eq 13, 3) := dk_153 0 13 (dk_at dksX0_drawn_0 21 rfl rfl)
theorem dX0_drawn_24 : decode cX0_drawn 24 = .ok (.iload_n 3, 1) := dk_29 (dk_at dksX0_drawn_1 0 rfl rfl)
theorem dX0_drawn_25 : decode cX0_drawn 25 = .ok (.i2l, 1) := dk_133 (dk_at dksX0_drawn_1 1 rfl rfl)
theorem dX0_drawn_26 : decode cX0_drawn 26 = .ok (.lconst 0, 1) := dk_9 (dk_at dksX0_drawn_1 2 rfl rfl)
theorem dX0_drawn_27 : decode cX0_drawn 27 = .ok (.lconst 1, 1) := dk_10 (dk_at dksX0_drawn_1 3 rfl rfl)
theorem dX0_drawn_28 : decode cX0_drawn 28 = .ok (.invokestatic 108, 3) := dk_184 0 108 (dk_at dksX0_drawn_1 4 rfl rfl)
theorem dX0_drawn_31 : decode cX0_drawn 31 = .ok (.ifCond .ne 6, 3) := dk_154 0 6 (dk_at dksX0_drawn_1 7 rfl rfl)
theorem dX0_drawn_34 : decode cX0_drawn 34 = .ok (.bipush (-2), 2) := dk_16 254 (dk_at dksX0_drawn_1 10 rfl rfl)
theorem dX0_drawn_36 : decode cX0_drawn 36 = .ok (.ireturn, 1) := dk_172 (dk_at dksX0_drawn_1 12 rfl rfl)
theorem dX0_drawn_37 : decode cX0_drawn 37 = .ok (.aload_n 0, 1) := dk_42 (dk_at dksX0_drawn_1 13 rfl rfl)
theorem dX0_drawn_38 : decode cX0_drawn 38 = .ok (.iload_n 1, 1) := dk_27 (dk_at dksX0_drawn_1 14 rfl rfl)
theorem dX0_drawn_39 : decode cX0_drawn 39 = .ok (.iload_n 2, 1) := dk_28 (dk_at dksX0_drawn_1 15 rfl rfl)
theorem dX0_drawn_40 : decode cX0_drawn 40 = .ok (.invokevirtual 317, 3) := dk_182 1 61 (dk_at dksX0_drawn_1 16 rfl rfl)
theorem dX0_drawn_43 : decode cX0_drawn 43 = .ok (.istore 4, 2) := dk_54 4 (dk_at dksX0_drawn_1 19 rfl rfl)
theorem dX0_drawn_45 : decode cX0_drawn 45 = .ok (.iload_n 3, 1) := dk_29 (dk_at dksX0_drawn_1 21 rfl rfl)
theorem dX0_drawn_46 : decode cX0_drawn 46 = .ok (.ifCond .ne 8, 3) := dk_154 0 8 (dk_at dksX0_drawn_2 0 rfl rfl)
theorem dX0_drawn_49 : decode cX0_drawn 49 = .ok (.iload 4, 2) := dk_21 4 (dk_at dksX0_drawn_2 3 rfl rfl)
theorem dX0_drawn_51 : decode cX0_drawn 51 = .ok (.goto 7, 3) := dk_167 0 7 (dk_at dksX0_drawn_2 5 rfl rfl)
theorem dX0_drawn_54 : decode cX0_drawn 54 = .ok (.aload_n 0, 1) := dk_42 (dk_at dksX0_drawn_2 8 rfl rfl)
theorem dX0_drawn_55 : decode cX0_drawn 55 = .ok (.getfield 310, 3) := dk_180 1 54 (dk_at dksX0_drawn_2 9 rfl rfl)
theorem dX0_drawn_58 : decode cX0_drawn 58 = .ok (.ireturn, 1) := dk_172 (dk_at dksX0_drawn_2 12 rfl rfl)
abbrev cX0_draws : ByteArray := prog_1_method_51_code
def yX0_draws : MethodName := ⟨RX0, "draws", "(II)I"⟩
def dkwX0_draws_5 : List UInt8 := [181, 1, 54, 42, 42, 180, 0, 38, 182, 1, 10, 21, 5, 172]
abbrev dktX0_draws_5 : List UInt8 := dkwX0_draws_5 ++ []
def dkwX0_draws_4 : List UInt8 := [4, 42, 180, 0, 25, 182, 0, 86, 120, 4, 100, 182, 0, 242, 184, 0, 93, 54, 5, 42, 42, 180, 0, 90]
abbrev dktX0_draws_4 : List UInt8 := dkwX0_draws_4 ++ dktX0_draws_5
def dkwX0_draws_3 : List UInt8 := [182, 0, 211, 87, 21, 5, 6, 112, 5, 160, 0, 8, 42, 182, 0, 231, 87, 132, 5, 1, 167, 255, 184, 42]
abbrev dktX0_draws_3 : List UInt8 := dkwX0_draws_3 ++ dktX0_draws_4
def dkwX0_draws_2 : List UInt8 := [20, 1, 48, 113, 66, 42, 21, 6, 182, 0, 137, 153, 0, 16, 42, 21, 6, 33, 20, 1, 52, 113, 136]
abbrev dktX0_draws_2 : List UInt8 := dkwX0_draws_2 ++ dktX0_draws_3
def dkwX0_draws_1 : List UInt8 := [20, 1, 46, 105, 20, 1, 48, 113, 66, 33, 20, 1, 50, 113, 136, 54, 6, 33, 20, 1, 46, 105]
abbrev dktX0_draws_1 : List UInt8 := dkwX0_draws_1 ++ dktX0_draws_2
def dkwX0_draws_0 : List UInt8 := [42, 42, 180, 0, 38, 182, 1, 6, 27, 133, 10, 97, 66, 3, 54, 5, 21, 5, 28, 162, 0, 72, 33]
abbrev dktX0_draws_0 : List UInt8 := dkwX0_draws_0 ++ dktX0_draws_1
theorem dksX0_draws_0 : cX0_draws.data.toList.drop 0 = dktX0_draws_0 := by decide +kernel
theorem dksX0_draws_1 : cX0_draws.data.toList.drop 23 = dktX0_draws_1 := dk_seg dksX0_draws_0 23 rfl rfl
theorem dksX0_draws_2 : cX0_draws.data.toList.drop 45 = dktX0_draws_2 := dk_seg dksX0_draws_1 22 rfl rfl
theorem dksX0_draws_3 : cX0_draws.data.toList.drop 68 = dktX0_draws_3 := dk_seg dksX0_draws_2 23 rfl rfl
theorem dksX0_draws_4 : cX0_draws.data.toList.drop 92 = dktX0_draws_4 := dk_seg dksX0_draws_3 24 rfl rfl
theorem dksX0_draws_5 : cX0_draws.data.toList.drop 116 = dktX0_draws_5 := dk_seg dksX0_draws_4 24 rfl rfl
theorem dX0_draws_0 : decode cX0_draws 0 = .ok (.aload_n 0, 1) := dk_42 (dk_at dksX0_draws_0 0 rfl rfl)
theorem dX0_draws_1 : decode cX0_draws 1 = .ok (.aload_n 0, 1) := dk_42 (dk_at dksX0_draws_0 1 rfl rfl)
theorem dX0_draws_2 : decode cX0_draws 2 = .ok (.getfield 38, 3) := dk_180 0 38 (dk_at dksX0_draws_0 2 rfl rfl)
theorem dX0_draws_5 : decode cX0_draws 5 = .ok (.invokevirtual 262, 3) := dk_182 1 6 (dk_at dksX0_draws_0 5 rfl rfl)
theorem dX0_draws_8 : decode cX0_draws 8 = .ok (.iload_n 1, 1) := dk_27 (dk_at dksX0_draws_0 8 rfl rfl)
theorem dX0_draws_9 : decode cX0_draws 9 = .ok (.i2l, 1) := dk_133 (dk_at dksX0_draws_0 9 rfl rfl)
theorem dX0_draws_10 : decode cX0_draws 10 = .ok (.lconst 1, 1) := dk_10 (dk_at dksX0_draws_0 10 rfl rfl)
theorem dX0_draws_11 : decode cX0_draws 11 = .ok (.ladd, 1) := dk_97 (dk_at dksX0_draws_0 11 rfl rfl)
theorem dX0_draws_12 : decode cX0_draws 12 = .ok (.lstore_n 3, 1) := dk_66 (dk_at dksX0_draws_0 12 rfl rfl)
theorem dX0_draws_13 : decode cX0_draws 13 = .ok (.iconst 0, 1) := dk_3 (dk_at dksX0_draws_0 13 rfl rfl)
theorem dX0_draws_14 : decode cX0_draws 14 = .ok (.istore 5, 2) := dk_54 5 (dk_at dksX0_draws_0 14 rfl rfl)
theorem dX0_draws_16 : decode cX0_draws 16 = .ok (.iload 5, 2) := dk_21 5 (dk_at dksX0_draws_0 16 rfl rfl)
theorem dX0_draws_18 : decode cX0_draws 18 = .ok (.iload_n 2, 1) := dk_28 (dk_at dksX0_draws_0 18 rfl rfl)
theorem dX0_draws_19 : decode cX0_draws 19 = .ok (.if_icmp .ge 72, 3) := dk_162 0 72 (dk_at dksX0_draws_0 19 rfl rfl)
theorem dX0_draws_22 : decode cX0_draws 22 = .ok (.lload_n 3, 1) := dk_33 (dk_at dksX0_draws_0 22 rfl rfl)
theorem dX0_draws_23 : decode cX0_draws 23 = .ok (.ldc2_w 302, 3) := dk_20 1 46 (dk_at dksX0_draws_1 0 rfl rfl)
theorem dX0_draws_26 : decode cX0_draws 26 = .ok (.lmul, 1) := dk_105 (dk_at dksX0_draws_1 3 rfl rfl)
theorem dX0_draws_27 : decode cX0_draws 27 = .ok (.ldc2_w 304, 3) := dk_20 1 48 (dk_at dksX0_draws_1 4 rfl rfl)
theorem dX0_draws_30 : decode cX0_draws 30 = .ok (.lrem, 1) := dk_113 (dk_at dksX0_draws_1 7 rfl rfl)
theorem dX0_draws_31 : decode cX0_draws 31 = .ok (.lstore_n 3, 1) := dk_66 (dk_at dksX0_draws_1 8 rfl rfl)
theorem dX0_draws_32 : decode cX0_draws 32 = .ok (.lload_n 3, 1) := dk_33 (dk_at dksX0_draws_1 9 rfl rfl)
theorem dX0_draws_33 : decode cX0_draws 33 = .ok (.ldc2_w 306, 3) := dk_20 1 50 (dk_at dksX0_draws_1 10 rfl rfl)
theorem dX0_draws_36 : decode cX0_draws 36 = .ok (.lrem, 1) := dk_113 (dk_at dksX0_draws_1 13 rfl rfl)
theorem dX0_draws_37 : decode cX0_draws 37 = .ok (.l2i, 1) := dk_136 (dk_at dksX0_draws_1 14 rfl rfl)
theorem dX0_draws_38 : decode cX0_draws 38 = .ok (.istore 6, 2) := dk_54 6 (dk_at dksX0_draws_1 15 rfl rfl)
theorem dX0_draws_40 : decode cX0_draws 40 = .ok (.lload_n 3, 1) := dk_33 (dk_at dksX0_draws_1 17 rfl rfl)
theorem dX0_draws_41 : decode cX0_draws 41 = .ok (.ldc2_w 302, 3) := dk_20 1 46 (dk_at dksX0_draws_1 18 rfl rfl)
theorem dX0_draws_44 : decode cX0_draws 44 = .ok (.lmul, 1) := dk_105 (dk_at dksX0_draws_1 21 rfl rfl)
theorem dX0_draws_45 : decode cX0_draws 45 = .ok (.ldc2_w 304, 3) := dk_20 1 48 (dk_at dksX0_draws_2 0 rfl rfl)
theorem dX0_draws_48 : decode cX0_draws 48 = .ok (.lrem, 1) := dk_113 (dk_at dksX0_draws_2 3 rfl rfl)
theorem dX0_draws_49 : decode cX0_draws 49 = .ok (.lstore_n 3, 1) := dk_66 (dk_at dksX0_draws_2 4 rfl rfl)
theorem dX0_draws_50 : decode cX0_draws 50 = .ok (.aload_n 0, 1) := dk_42 (dk_at dksX0_draws_2 5 rfl rfl)
theorem dX0_draws_51 : decode cX0_draws 51 = .ok (.iload 6, 2) := dk_21 6 (dk_at dksX0_draws_2 6 rfl rfl)
theorem dX0_draws_53 : decode cX0_draws 53 = .ok (.invokevirtual 137, 3) := dk_182 0 137 (dk_at dksX0_draws_2 8 rfl rfl)
theorem dX0_draws_56 : decode cX0_draws 56 = .ok (.ifCond .eq 16, 3) := dk_153 0 16 (dk_at dksX0_draws_2 11 rfl rfl)
theorem dX0_draws_59 : decode cX0_draws 59 = .ok (.aload_n 0, 1) := dk_42 (dk_at dksX0_draws_2 14 rfl rfl)
theorem dX0_draws_60 : decode cX0_draws 60 = .ok (.iload 6, 2) := dk_21 6 (dk_at dksX0_draws_2 15 rfl rfl)
theorem dX0_draws_62 : decode cX0_draws 62 = .ok (.lload_n 3, 1) := dk_33 (dk_at dksX0_draws_2 17 rfl rfl)
theorem dX0_draws_63 : decode cX0_draws 63 = .ok (.ldc2_w 308, 3) := dk_20 1 52 (dk_at dksX0_draws_2 18 rfl rfl)
theorem dX0_draws_66 : decode cX0_draws 66 = .ok (.lrem, 1) := dk_113 (dk_at dksX0_draws_2 21 rfl rfl)
theorem dX0_draws_67 : decode cX0_draws 67 = .ok (.l2i, 1) := dk_136 (dk_at dksX0_draws_2 22 rfl rfl)
theorem dX0_draws_68 : decode cX0_draws 68 = .ok (.invokevirtual 211, 3) := dk_182 0 211 (dk_at dksX0_draws_3 0 rfl rfl)
theorem dX0_draws_71 : decode cX0_draws 71 = .ok (.pop, 1) := dk_87 (dk_at dksX0_draws_3 3 rfl rfl)
theorem dX0_draws_72 : decode cX0_draws 72 = .ok (.iload 5, 2) := dk_21 5 (dk_at dksX0_draws_3 4 rfl rfl)
theorem dX0_draws_74 : decode cX0_draws 74 = .ok (.iconst 3, 1) := dk_6 (dk_at dksX0_draws_3 6 rfl rfl)
theorem dX0_draws_75 : decode cX0_draws 75 = .ok (.irem, 1) := dk_112 (dk_at dksX0_draws_3 7 rfl rfl)
theorem dX0_draws_76 : decode cX0_draws 76 = .ok (.iconst 2, 1) := dk_5 (dk_at dksX0_draws_3 8 rfl rfl)
theorem dX0_draws_77 : decode cX0_draws 77 = .ok (.if_icmp .ne 8, 3) := dk_160 0 8 (dk_at dksX0_draws_3 9 rfl rfl)
theorem dX0_draws_80 : decode cX0_draws 80 = .ok (.aload_n 0, 1) := dk_42 (dk_at dksX0_draws_3 12 rfl rfl)
theorem dX0_draws_81 : decode cX0_draws 81 = .ok (.invokevirtual 231, 3) := dk_182 0 231 (dk_at dksX0_draws_3 13 rfl rfl)
theorem dX0_draws_84 : decode cX0_draws 84 = .ok (.pop, 1) := dk_87 (dk_at dksX0_draws_3 16 rfl rfl)
theorem dX0_draws_85 : decode cX0_draws 85 = .ok (.iinc 5 1, 3) := dk_132 5 1 (dk_at dksX0_draws_3 17 rfl rfl)
theorem dX0_draws_88 : decode cX0_draws 88 = .ok (.goto (-72), 3) := dk_167 255 184 (dk_at dksX0_draws_3 20 rfl rfl)
theorem dX0_draws_91 : decode cX0_draws 91 = .ok (.aload_n 0, 1) := dk_42 (dk_at dksX0_draws_3 23 rfl rfl)
theorem dX0_draws_92 : decode cX0_draws 92 = .ok (.iconst 1, 1) := dk_4 (dk_at dksX0_draws_4 0 rfl rfl)
theorem dX0_draws_93 : decode cX0_draws 93 = .ok (.aload_n 0, 1) := dk_42 (dk_at dksX0_draws_4 1 rfl rfl)
theorem dX0_draws_94 : decode cX0_draws 94 = .ok (.getfield 25, 3) := dk_180 0 25 (dk_at dksX0_draws_4 2 rfl rfl)
theorem dX0_draws_97 : decode cX0_draws 97 = .ok (.invokevirtual 86, 3) := dk_182 0 86 (dk_at dksX0_draws_4 5 rfl rfl)
theorem dX0_draws_100 : decode cX0_draws 100 = .ok (.ishl, 1) := dk_120 (dk_at dksX0_draws_4 8 rfl rfl)
theorem dX0_draws_101 : decode cX0_draws 101 = .ok (.iconst 1, 1) := dk_4 (dk_at dksX0_draws_4 9 rfl rfl)
theorem dX0_draws_102 : decode cX0_draws 102 = .ok (.isub, 1) := dk_100 (dk_at dksX0_draws_4 10 rfl rfl)
theorem dX0_draws_103 : decode cX0_draws 103 = .ok (.invokevirtual 242, 3) := dk_182 0 242 (dk_at dksX0_draws_4 11 rfl rfl)
theorem dX0_draws_106 : decode cX0_draws 106 = .ok (.invokestatic 93, 3) := dk_184 0 93 (dk_at dksX0_draws_4 14 rfl rfl)
theorem dX0_draws_109 : decode cX0_draws 109 = .ok (.istore 5, 2) := dk_54 5 (dk_at dksX0_draws_4 17 rfl rfl)
theorem dX0_draws_111 : decode cX0_draws 111 = .ok (.aload_n 0, 1) := dk_42 (dk_at dksX0_draws_4 19 rfl rfl)
theorem dX0_draws_112 : decode cX0_draws 112 = .ok (.aload_n 0, 1) := dk_42 (dk_at dksX0_draws_4 20 rfl rfl)
theorem dX0_draws_113 : decode cX0_draws 113 = .ok (.getfield 90, 3) := dk_180 0 90 (dk_at dksX0_draws_4 21 rfl rfl)
theorem dX0_draws_116 : decode cX0_draws 116 = .ok (.putfield 310, 3) := dk_181 1 54 (dk_at dksX0_draws_5 0 rfl rfl)
theorem dX0_draws_119 : decode cX0_draws 119 = .ok (.aload_n 0, 1) := dk_42 (dk_at dksX0_draws_5 3 rfl rfl)
theorem dX0_draws_120 : decode cX0_draws 120 = .ok (.aload_n 0, 1) := dk_42 (dk_at dksX0_draws_5 4 rfl rfl)
theorem dX0_draws_121 : decode cX0_draws 121 = .ok (.getfield 38, 3) := dk_180 0 38 (dk_at dksX0_draws_5 5 rfl rfl)
theorem dX0_draws_124 : decode cX0_draws 124 = .ok (.invokevirtual 266, 3) := dk_182 1 10 (dk_at dksX0_draws_5 8 rfl rfl)
theorem dX0_draws_127 : decode cX0_draws 127 = .ok (.iload 5, 2) := dk_21 5 (dk_at dksX0_draws_5 11 rfl rfl)
theorem dX0_draws_129 : decode cX0_draws 129 = .ok (.ireturn, 1) := dk_172 (dk_at dksX0_draws_5 13 rfl rfl)
abbrev cX0_odds : ByteArray := prog_1_method_53_code
def yX0_odds : MethodName := ⟨RX0, "odds", "(IIII)J"⟩
def dkwX0_odds_4 : List UInt8 := [21, 4, 184, 1, 24, 173]
abbrev dktX0_odds_4 : List UInt8 := dkwX0_odds_4 ++ []
def dkwX0_odds_3 : List UInt8 := [182, 1, 61, 29, 161, 0, 9, 22, 5, 10, 97, 55, 5, 132, 7, 1, 167, 255, 227, 22, 5, 28, 133]
abbrev dktX0_odds_3 : List UInt8 := dkwX0_odds_3 ++ dktX0_odds_4
def dkwX0_odds_2 : List UInt8 := [20, 1, 28, 173, 9, 55, 5, 3, 54, 7, 21, 7, 28, 162, 0, 29, 42, 27, 21, 7, 96, 16, 20]
abbrev dktX0_odds_2 : List UInt8 := dkwX0_odds_2 ++ dktX0_odds_3
def dkwX0_odds_1 : List UInt8 := [29, 133, 9, 20, 1, 52, 184, 0, 108, 153, 0, 14, 21, 4, 133, 9, 10, 184, 0, 108, 154, 0, 7]
abbrev dktX0_odds_1 : List UInt8 := dkwX0_odds_1 ++ dktX0_odds_2
def dkwX0_odds_0 : List UInt8 := [27, 133, 9, 20, 1, 57, 184, 0, 108, 153, 0, 38, 28, 133, 10, 20, 1, 64, 184, 0, 108, 153, 0, 26]
abbrev dktX0_odds_0 : List UInt8 := dkwX0_odds_0 ++ dktX0_odds_1
theorem dksX0_odds_0 : cX0_odds.data.toList.drop 0 = dktX0_odds_0 := by decide +kernel
theorem dksX0_odds_1 : cX0_odds.data.toList.drop 24 = dktX0_odds_1 := dk_seg dksX0_odds_0 24 rfl rfl
theorem dksX0_odds_2 : cX0_odds.data.toList.drop 47 = dktX0_odds_2 := dk_seg dksX0_odds_1 23 rfl rfl
theorem dksX0_odds_3 : cX0_odds.data.toList.drop 70 = dktX0_odds_3 := dk_seg dksX0_odds_2 23 rfl rfl
theorem dksX0_odds_4 : cX0_odds.data.toList.drop 93 = dktX0_odds_4 := dk_seg dksX0_odds_3 23 rfl rfl
theorem dX0_odds_0 : decode cX0_odds 0 = .ok (.iload_n 1, 1) := dk_27 (dk_at dksX0_odds_0 0 rfl rfl)
theorem dX0_odds_1 : decode cX0_odds 1 = .ok (.i2l, 1) := dk_133 (dk_at dksX0_odds_0 1 rfl rfl)
theorem dX0_odds_2 : decode cX0_odds 2 = .ok (.lconst 0, 1) := dk_9 (dk_at dksX0_odds_0 2 rfl rfl)
theorem dX0_odds_3 : decode cX0_odds 3 = .ok (.ldc2_w 313, 3) := dk_20 1 57 (dk_at dksX0_odds_0 3 rfl rfl)
theorem dX0_odds_6 : decode cX0_odds 6 = .ok (.invokestatic 108, 3) := dk_184 0 108 (dk_at dksX0_odds_0 6 rfl rfl)
theorem dX0_odds_9 : decode cX0_odds 9 = .ok (.ifCond .eq 38, 3) := dk_153 0 38 (dk_at dksX0_odds_0 9 rfl rfl)
theorem dX0_odds_12 : decode cX0_odds 12 = .ok (.iload_n 2, 1) := dk_28 (dk_at dksX0_odds_0 12 rfl rfl)
theorem dX0_odds_13 : decode cX0_odds 13 = .ok (.i2l, 1) := dk_133 (dk_at dksX0_odds_0 13 rfl rfl)
theorem dX0_odds_14 : decode cX0_odds 14 = .ok (.lconst 1, 1) := dk_10 (dk_at dksX0_odds_0 14 rfl rfl)
theorem dX0_odds_15 : decode cX0_odds 15 = .ok (.ldc2_w 320, 3) := dk_20 1 64 (dk_at dksX0_odds_0 15 rfl rfl)
theorem dX0_odds_18 : decode cX0_odds 18 = .ok (.invokestatic 108, 3) := dk_184 0 108 (dk_at dksX0_odds_0 18 rfl rfl)
theorem dX0_odds_21 : decode cX0_odds 21 = .ok (.ifCond .eq 26, 3) := dk_153 0 26 (dk_at dksX0_odds_0 21 rfl rfl)
theorem dX0_odds_24 : decode cX0_odds 24 = .ok (.iload_n 3, 1) := dk_29 (dk_at dksX0_odds_1 0 rfl rfl)
theorem dX0_odds_25 : decode cX0_odds 25 = .ok (.i2l, 1) := dk_133 (dk_at dksX0_odds_1 1 rfl rfl)
theorem dX0_odds_26 : decode cX0_odds 26 = .ok (.lconst 0, 1) := dk_9 (dk_at dksX0_odds_1 2 rfl rfl)
theorem dX0_odds_27 : decode cX0_odds 27 = .ok (.ldc2_w 308, 3) := dk_20 1 52 (dk_at dksX0_odds_1 3 rfl rfl)
theorem dX0_odds_30 : decode cX0_odds 30 = .ok (.invokestatic 108, 3) := dk_184 0 108 (dk_at dksX0_odds_1 6 rfl rfl)
theorem dX0_odds_33 : decode cX0_odds 33 = .ok (.ifCond .eq 14, 3) := dk_153 0 14 (dk_at dksX0_odds_1 9 rfl rfl)
theorem dX0_odds_36 : decode cX0_odds 36 = .ok (.iload 4, 2) := dk_21 4 (dk_at dksX0_odds_1 12 rfl rfl)
theorem dX0_odds_38 : decode cX0_odds 38 = .ok (.i2l, 1) := dk_133 (dk_at dksX0_odds_1 14 rfl rfl)
theorem dX0_odds_39 : decode cX0_odds 39 = .ok (.lconst 0, 1) := dk_9 (dk_at dksX0_odds_1 15 rfl rfl)
theorem dX0_odds_40 : decode cX0_odds 40 = .ok (.lconst 1, 1) := dk_10 (dk_at dksX0_odds_1 16 rfl rfl)
theorem dX0_odds_41 : decode cX0_odds 41 = .ok (.invokestatic 108, 3) := dk_184 0 108 (dk_at dksX0_odds_1 17 rfl rfl)
theorem dX0_odds_44 : decode cX0_odds 44 = .ok (.ifCond .ne 7, 3) := dk_154 0 7 (dk_at dksX0_odds_1 20 rfl rfl)
theorem dX0_odds_47 : decode cX0_odds 47 = .ok (.ldc2_w 284, 3) := dk_20 1 28 (dk_at dksX0_odds_2 0 rfl rfl)
theorem dX0_odds_50 : decode cX0_odds 50 = .ok (.lreturn, 1) := dk_173 (dk_at dksX0_odds_2 3 rfl rfl)
theorem dX0_odds_51 : decode cX0_odds 51 = .ok (.lconst 0, 1) := dk_9 (dk_at dksX0_odds_2 4 rfl rfl)
theorem dX0_odds_52 : decode cX0_odds 52 = .ok (.lstore 5, 2) := dk_55 5 (dk_at dksX0_odds_2 5 rfl rfl)
theorem dX0_odds_54 : decode cX0_odds 54 = .ok (.iconst 0, 1) := dk_3 (dk_at dksX0_odds_2 7 rfl rfl)
theorem dX0_odds_55 : decode cX0_odds 55 = .ok (.istore 7, 2) := dk_54 7 (dk_at dksX0_odds_2 8 rfl rfl)
theorem dX0_odds_57 : decode cX0_odds 57 = .ok (.iload 7, 2) := dk_21 7 (dk_at dksX0_odds_2 10 rfl rfl)
theorem dX0_odds_59 : decode cX0_odds 59 = .ok (.iload_n 2, 1) := dk_28 (dk_at dksX0_odds_2 12 rfl rfl)
theorem dX0_odds_60 : decode cX0_odds 60 = .ok (.if_icmp .ge 29, 3) := dk_162 0 29 (dk_at dksX0_odds_2 13 rfl rfl)
theorem dX0_odds_63 : decode cX0_odds 63 = .ok (.aload_n 0, 1) := dk_42 (dk_at dksX0_odds_2 16 rfl rfl)
theorem dX0_odds_64 : decode cX0_odds 64 = .ok (.iload_n 1, 1) := dk_27 (dk_at dksX0_odds_2 17 rfl rfl)
theorem dX0_odds_65 : decode cX0_odds 65 = .ok (.iload 7, 2) := dk_21 7 (dk_at dksX0_odds_2 18 rfl rfl)
theorem dX0_odds_67 : decode cX0_odds 67 = .ok (.iadd, 1) := dk_96 (dk_at dksX0_odds_2 20 rfl rfl)
theorem dX0_odds_68 : decode cX0_odds 68 = .ok (.bipush 20, 2) := dk_16 20 (dk_at dksX0_odds_2 21 rfl rfl)
theorem dX0_odds_70 : decode cX0_odds 70 = .ok (.invokevirtual 317, 3) := dk_182 1 61 (dk_at dksX0_odds_3 0 rfl rfl)
theorem dX0_odds_73 : decode cX0_odds 73 = .ok (.iload_n 3, 1) := dk_29 (dk_at dksX0_odds_3 3 rfl rfl)
theorem dX0_odds_74 : decode cX0_odds 74 = .ok (.if_icmp .lt 9, 3) := dk_161 0 9 (dk_at dksX0_odds_3 4 rfl rfl)
theorem dX0_odds_77 : decode cX0_odds 77 = .ok (.lload 5, 2) := dk_22 5 (dk_at dksX0_odds_3 7 rfl rfl)
theorem dX0_odds_79 : decode cX0_odds 79 = .ok (.lconst 1, 1) := dk_10 (dk_at dksX0_odds_3 9 rfl rfl)
theorem dX0_odds_80 : decode cX0_odds 80 = .ok (.ladd, 1) := dk_97 (dk_at dksX0_odds_3 10 rfl rfl)
theorem dX0_odds_81 : decode cX0_odds 81 = .ok (.lstore 5, 2) := dk_55 5 (dk_at dksX0_odds_3 11 rfl rfl)
theorem dX0_odds_83 : decode cX0_odds 83 = .ok (.iinc 7 1, 3) := dk_132 7 1 (dk_at dksX0_odds_3 13 rfl rfl)
theorem dX0_odds_86 : decode cX0_odds 86 = .ok (.goto (-29), 3) := dk_167 255 227 (dk_at dksX0_odds_3 16 rfl rfl)
theorem dX0_odds_89 : decode cX0_odds 89 = .ok (.lload 5, 2) := dk_22 5 (dk_at dksX0_odds_3 19 rfl rfl)
theorem dX0_odds_91 : decode cX0_odds 91 = .ok (.iload_n 2, 1) := dk_28 (dk_at dksX0_odds_3 21 rfl rfl)
theorem dX0_odds_92 : decode cX0_odds 92 = .ok (.i2l, 1) := dk_133 (dk_at dksX0_odds_3 22 rfl rfl)
theorem dX0_odds_93 : decode cX0_odds 93 = .ok (.iload 4, 2) := dk_21 4 (dk_at dksX0_odds_4 0 rfl rfl)
theorem dX0_odds_95 : decode cX0_odds 95 = .ok (.invokestatic 280, 3) := dk_184 1 24 (dk_at dksX0_odds_4 2 rfl rfl)
theorem dX0_odds_98 : decode cX0_odds 98 = .ok (.lreturn, 1) := dk_173 (dk_at dksX0_odds_4 5 rfl rfl)
abbrev cX0_image : ByteArray := prog_1_method_54_code
def yX0_image : MethodName := ⟨RX0, "image", "()I"⟩
def dkwX0_image_1 : List UInt8 := [181, 0, 56, 42, 180, 0, 56, 172]
abbrev dktX0_image_1 : List UInt8 := dkwX0_image_1 ++ []
def dkwX0_image_0 : List UInt8 := [42, 42, 180, 0, 53, 182, 1, 6, 42, 42, 180, 0, 102, 181, 1, 66, 42, 42, 180, 0, 25, 182, 0, 86]
abbrev dktX0_image_0 : List UInt8 := dkwX0_image_0 ++ dktX0_image_1
theorem dksX0_image_0 : cX0_image.data.toList.drop 0 = dktX0_image_0 := by decide +kernel
theorem dksX0_image_1 : cX0_image.data.toList.drop 24 = dktX0_image_1 := dk_seg dksX0_image_0 24 rfl rfl
theorem dX0_image_0 : decode cX0_image 0 = .ok (.aload_n 0, 1) := dk_42 (dk_at dksX0_image_0 0 rfl rfl)
theorem dX0_image_1 : decode cX0_image 1 = .ok (.aload_n 0, 1) := dk_42 (dk_at dksX0_image_0 1 rfl rfl)
theorem dX0_image_2 : decode cX0_image 2 = .ok (.getfield 53, 3) := dk_180 0 53 (dk_at dksX0_image_0 2 rfl rfl)
theorem dX0_image_5 : decode cX0_image 5 = .ok (.invokevirtual 262, 3) := dk_182 1 6 (dk_at dksX0_image_0 5 rfl rfl)
theorem dX0_image_8 : decode cX0_image 8 = .ok (.aload_n 0, 1) := dk_42 (dk_at dksX0_image_0 8 rfl rfl)
theorem dX0_image_9 : decode cX0_image 9 = .ok (.aload_n 0, 1) := dk_42 (dk_at dksX0_image_0 9 rfl rfl)
theorem dX0_image_10 : decode cX0_image 10 = .ok (.getfield 102, 3) := dk_180 0 102 (dk_at dksX0_image_0 10 rfl rfl)
theorem dX0_image_13 : decode cX0_image 13 = .ok (.putfield 322, 3) := dk_181 1 66 (dk_at dksX0_image_0 13 rfl rfl)
theorem dX0_image_16 : decode cX0_image 16 = .ok (.aload_n 0, 1) := dk_42 (dk_at dksX0_image_0 16 rfl rfl)
theorem dX0_image_17 : decode cX0_image 17 = .ok (.aload_n 0, 1) := dk_42 (dk_at dksX0_image_0 17 rfl rfl)
theorem dX0_image_18 : decode cX0_image 18 = .ok (.getfield 25, 3) := dk_180 0 25 (dk_at dksX0_image_0 18 rfl rfl)
theorem dX0_image_21 : decode cX0_image 21 = .ok (.invokevirtual 86, 3) := dk_182 0 86 (dk_at dksX0_image_0 21 rfl rfl)
theorem dX0_image_24 : decode cX0_image 24 = .ok (.putfield 56, 3) := dk_181 0 56 (dk_at dksX0_image_1 0 rfl rfl)
theorem dX0_image_27 : decode cX0_image 27 = .ok (.aload_n 0, 1) := dk_42 (dk_at dksX0_image_1 3 rfl rfl)
theorem dX0_image_28 : decode cX0_image 28 = .ok (.getfield 56, 3) := dk_180 0 56 (dk_at dksX0_image_1 4 rfl rfl)
theorem dX0_image_31 : decode cX0_image 31 = .ok (.ireturn, 1) := dk_172 (dk_at dksX0_image_1 7 rfl rfl)
abbrev cX0_back : ByteArray := prog_1_method_55_code
def yX0_back : MethodName := ⟨RX0, "back", "()I"⟩
def dkwX0_back_2 : List UInt8 := [42, 180, 0, 53, 182, 1, 10, 42, 42, 180, 1, 66, 181, 0, 102, 42, 180, 0, 56, 172]
abbrev dktX0_back_2 : List UInt8 := dkwX0_back_2 ++ []
def dkwX0_back_1 : List UInt8 := [164, 0, 23, 42, 180, 0, 25, 42, 180, 0, 25, 182, 0, 86, 4, 100, 182, 1, 69, 87, 167, 255, 225, 42]
abbrev dktX0_back_1 : List UInt8 := dkwX0_back_1 ++ dktX0_back_2
def dkwX0_back_0 : List UInt8 := [42, 180, 0, 56, 2, 160, 0, 6, 16, 253, 172, 42, 180, 0, 25, 182, 0, 86, 42, 180, 0, 56]
abbrev dktX0_back_0 : List UInt8 := dkwX0_back_0 ++ dktX0_back_1
theorem dksX0_back_0 : cX0_back.data.toList.drop 0 = dktX0_back_0 := by decide +kernel
theorem dksX0_back_1 : cX0_back.data.toList.drop 22 = dktX0_back_1 := dk_seg dksX0_back_0 22 rfl rfl
theorem dksX0_back_2 : cX0_back.data.toList.drop 46 = dktX0_back_2 := dk_seg dksX0_back_1 24 rfl rfl
theorem dX0_back_0 : decode cX0_back 0 = .ok (.aload_n 0, 1) := dk_42 (dk_at dksX0_back_0 0 rfl rfl)
theorem dX0_back_1 : decode cX0_back 1 = .ok (.getfield 56, 3) := dk_180 0 56 (dk_at dksX0_back_0 1 rfl rfl)
theorem dX0_back_4 : decode cX0_back 4 = .ok (.iconst (-1), 1) := dk_2 (dk_at dksX0_back_0 4 rfl rfl)
theorem dX0_back_5 : decode cX0_back 5 = .ok (.if_icmp .ne 6, 3) := dk_160 0 6 (dk_at dksX0_back_0 5 rfl rfl)
theorem dX0_back_8 : decode cX0_back 8 = .ok (.bipush (-3), 2) := dk_16 253 (dk_at dksX0_back_0 8 rfl rfl)
theorem dX0_back_10 : decode cX0_back 10 = .ok (.ireturn, 1) := dk_172 (dk_at dksX0_back_0 10 rfl rfl)
theorem dX0_back_11 : decode cX0_back 11 = .ok (.aload_n 0, 1) := dk_42 (dk_at dksX0_back_0 11 rfl rfl)
theorem dX0_back_12 : decode cX0_back 12 = .ok (.getfield 25, 3) := dk_180 0 25 (dk_at dksX0_back_0 12 rfl rfl)
theorem dX0_back_15 : decode cX0_back 15 = .ok (.invokevirtual 86, 3) := dk_182 0 86 (dk_at dksX0_back_0 15 rfl rfl)
theorem dX0_back_18 : decode cX0_back 18 = .ok (.aload_n 0, 1) := dk_42 (dk_at dksX0_back_0 18 rfl rfl)
theorem dX0_back_19 : decode cX0_back 19 = .ok (.getfield 56, 3) := dk_180 0 56 (dk_at dksX0_back_0 19 rfl rfl)
theorem dX0_back_22 : decode cX0_back 22 = .ok (.if_icmp .le 23, 3) := dk_164 0 23 (dk_at dksX0_back_1 0 rfl rfl)
theorem dX0_back_25 : decode cX0_back 25 = .ok (.aload_n 0, 1) := dk_42 (dk_at dksX0_back_1 3 rfl rfl)
theorem dX0_back_26 : decode cX0_back 26 = .ok (.getfield 25, 3) := dk_180 0 25 (dk_at dksX0_back_1 4 rfl rfl)
theorem dX0_back_29 : decode cX0_back 29 = .ok (.aload_n 0, 1) := dk_42 (dk_at dksX0_back_1 7 rfl rfl)
theorem dX0_back_30 : decode cX0_back 30 = .ok (.getfield 25, 3) := dk_180 0 25 (dk_at dksX0_back_1 8 rfl rfl)
theorem dX0_back_33 : decode cX0_back 33 = .ok (.invokevirtual 86, 3) := dk_182 0 86 (dk_at dksX0_back_1 11 rfl rfl)
theorem dX0_back_36 : decode cX0_back 36 = .ok (.iconst 1, 1) := dk_4 (dk_at dksX0_back_1 14 rfl rfl)
theorem dX0_back_37 : decode cX0_back 37 = .ok (.isub, 1) := dk_100 (dk_at dksX0_back_1 15 rfl rfl)
theorem dX0_back_38 : decode cX0_back 38 = .ok (.invokevirtual 325, 3) := dk_182 1 69 (dk_at dksX0_back_1 16 rfl rfl)
theorem dX0_back_41 : decode cX0_back 41 = .ok (.pop, 1) := dk_87 (dk_at dksX0_back_1 19 rfl rfl)
theorem dX0_back_42 : decode cX0_back 42 = .ok (.goto (-31), 3) := dk_167 255 225 (dk_at dksX0_back_1 20 rfl rfl)
theorem dX0_back_45 : decode cX0_back 45 = .ok (.aload_n 0, 1) := dk_42 (dk_at dksX0_back_1 23 rfl rfl)
theorem dX0_back_46 : decode cX0_back 46 = .ok (.aload_n 0, 1) := dk_42 (dk_at dksX0_back_2 0 rfl rfl)
theorem dX0_back_47 : decode cX0_back 47 = .ok (.getfield 53, 3) := dk_180 0 53 (dk_at dksX0_back_2 1 rfl rfl)
theorem dX0_back_50 : decode cX0_back 50 = .ok (.invokevirtual 266, 3) := dk_182 1 10 (dk_at dksX0_back_2 4 rfl rfl)
theorem dX0_back_53 : decode cX0_back 53 = .ok (.aload_n 0, 1) := dk_42 (dk_at dksX0_back_2 7 rfl rfl)
theorem dX0_back_54 : decode cX0_back 54 = .ok (.aload_n 0, 1) := dk_42 (dk_at dksX0_back_2 8 rfl rfl)
theorem dX0_back_55 : decode cX0_back 55 = .ok (.getfield 322, 3) := dk_180 1 66 (dk_at dksX0_back_2 9 rfl rfl)
theorem dX0_back_58 : decode cX0_back 58 = .ok (.putfield 102, 3) := dk_181 0 102 (dk_at dksX0_back_2 12 rfl rfl)
theorem dX0_back_61 : decode cX0_back 61 = .ok (.aload_n 0, 1) := dk_42 (dk_at dksX0_back_2 15 rfl rfl)
theorem dX0_back_62 : decode cX0_back 62 = .ok (.getfield 56, 3) := dk_180 0 56 (dk_at dksX0_back_2 16 rfl rfl)
theorem dX0_back_65 : decode cX0_back 65 = .ok (.ireturn, 1) := dk_172 (dk_at dksX0_back_2 19 rfl rfl)
abbrev cX0_feed : ByteArray := prog_1_method_57_code
def yX0_feed : MethodName := ⟨RX0, "feed", "(IIIIII)I"⟩
def dkwX0_feed_7 : List UInt8 := [181, 0, 105, 132, 7, 1, 167, 255, 184, 42, 180, 0, 105, 172]
abbrev dktX0_feed_7 : List UInt8 := dkwX0_feed_7 ++ []
def dkwX0_feed_6 : List UInt8 := [21, 7, 6, 160, 0, 8, 21, 5, 167, 0, 5, 21, 6, 145, 84, 42, 89, 180, 0, 105, 4, 96]
abbrev dktX0_feed_6 : List UInt8 := dkwX0_feed_6 ++ dktX0_feed_7
def dkwX0_feed_5 : List UInt8 := [167, 0, 37, 21, 7, 4, 160, 0, 7, 29, 167, 0, 27, 21, 7, 5, 160, 0, 8, 21, 4, 167, 0, 16]
abbrev dktX0_feed_5 : List UInt8 := dkwX0_feed_5 ++ dktX0_feed_6
def dkwX0_feed_4 : List UInt8 := [3, 54, 7, 21, 7, 27, 162, 0, 72, 42, 180, 0, 66, 42, 180, 0, 105, 21, 7, 154, 0, 7, 28]
abbrev dktX0_feed_4 : List UInt8 := dkwX0_feed_4 ++ dktX0_feed_5
def dkwX0_feed_3 : List UInt8 := [184, 0, 108, 154, 0, 6, 16, 254, 172, 42, 180, 0, 105, 27, 96, 17, 0, 160, 164, 0, 6, 16, 252, 172]
abbrev dktX0_feed_3 : List UInt8 := dkwX0_feed_3 ++ dktX0_feed_4
def dkwX0_feed_2 : List UInt8 := [153, 0, 29, 21, 5, 133, 9, 20, 1, 92, 184, 0, 108, 153, 0, 16, 21, 6, 133, 9, 20, 1, 92]
abbrev dktX0_feed_2 : List UInt8 := dkwX0_feed_2 ++ dktX0_feed_3
def dkwX0_feed_1 : List UInt8 := [29, 133, 9, 20, 1, 92, 184, 0, 108, 153, 0, 42, 21, 4, 133, 9, 20, 1, 92, 184, 0, 108]
abbrev dktX0_feed_1 : List UInt8 := dkwX0_feed_1 ++ dktX0_feed_2
def dkwX0_feed_0 : List UInt8 := [27, 133, 10, 20, 1, 90, 184, 0, 108, 153, 0, 66, 28, 133, 9, 20, 1, 92, 184, 0, 108, 153, 0, 54]
abbrev dktX0_feed_0 : List UInt8 := dkwX0_feed_0 ++ dktX0_feed_1
theorem dksX0_feed_0 : cX0_feed.data.toList.drop 0 = dktX0_feed_0 := by decide +kernel
theorem dksX0_feed_1 : cX0_feed.data.toList.drop 24 = dktX0_feed_1 := dk_seg dksX0_feed_0 24 rfl rfl
theorem dksX0_feed_2 : cX0_feed.data.toList.drop 46 = dktX0_feed_2 := dk_seg dksX0_feed_1 22 rfl rfl
theorem dksX0_feed_3 : cX0_feed.data.toList.drop 69 = dktX0_feed_3 := dk_seg dksX0_feed_2 23 rfl rfl
theorem dksX0_feed_4 : cX0_feed.data.toList.drop 93 = dktX0_feed_4 := dk_seg dksX0_feed_3 24 rfl rfl
theorem dksX0_feed_5 : cX0_feed.data.toList.drop 116 = dktX0_feed_5 := dk_seg dksX0_feed_4 23 rfl rfl
theorem dksX0_feed_6 : cX0_feed.data.toList.drop 140 = dktX0_feed_6 := dk_seg dksX0_feed_5 24 rfl rfl
theorem dksX0_feed_7 : cX0_feed.data.toList.drop 162 = dktX0_feed_7 := dk_seg dksX0_feed_6 22 rfl rfl
theorem dX0_feed_0 : decode cX0_feed 0 = .ok (.iload_n 1, 1) := dk_27 (dk_at dksX0_feed_0 0 rfl rfl)
theorem dX0_feed_1 : decode cX0_feed 1 = .ok (.i2l, 1) := dk_133 (dk_at dksX0_feed_0 1 rfl rfl)
theorem dX0_feed_2 : decode cX0_feed 2 = .ok (.lconst 1, 1) := dk_10 (dk_at dksX0_feed_0 2 rfl rfl)
theorem dX0_feed_3 : decode cX0_feed 3 = .ok (.ldc2_w 346, 3) := dk_20 1 90 (dk_at dksX0_feed_0 3 rfl rfl)
theorem dX0_feed_6 : decode cX0_feed 6 = .ok (.invokestatic 108, 3) := dk_184 0 108 (dk_at dksX0_feed_0 6 rfl rfl)
theorem dX0_feed_9 : decode cX0_feed 9 = .ok (.ifCond .eq 66, 3) := dk_153 0 66 (dk_at dksX0_feed_0 9 rfl rfl)
theorem dX0_feed_12 : decode cX0_feed 12 = .ok (.iload_n 2, 1) := dk_28 (dk_at dksX0_feed_0 12 rfl rfl)
theorem dX0_feed_13 : decode cX0_feed 13 = .ok (.i2l, 1) := dk_133 (dk_at dksX0_feed_0 13 rfl rfl)
theorem dX0_feed_14 : decode cX0_feed 14 = .ok (.lconst 0, 1) := dk_9 (dk_at dksX0_feed_0 14 rfl rfl)
theorem dX0_feed_15 : decode cX0_feed 15 = .ok (.ldc2_w 348, 3) := dk_20 1 92 (dk_at dksX0_feed_0 15 rfl rfl)
theorem dX0_feed_18 : decode cX0_feed 18 = .ok (.invokestatic 108, 3) := dk_184 0 108 (dk_at dksX0_feed_0 18 rfl rfl)
theorem dX0_feed_21 : decode cX0_feed 21 = .ok (.ifCond .eq 54, 3) := dk_153 0 54 (dk_at dksX0_feed_0 21 rfl rfl)
theorem dX0_feed_24 : decode cX0_feed 24 = .ok (.iload_n 3, 1) := dk_29 (dk_at dksX0_feed_1 0 rfl rfl)
theorem dX0_feed_25 : decode cX0_feed 25 = .ok (.i2l, 1) := dk_133 (dk_at dksX0_feed_1 1 rfl rfl)
theorem dX0_feed_26 : decode cX0_feed 26 = .ok (.lconst 0, 1) := dk_9 (dk_at dksX0_feed_1 2 rfl rfl)
theorem dX0_feed_27 : decode cX0_feed 27 = .ok (.ldc2_w 348, 3) := dk_20 1 92 (dk_at dksX0_feed_1 3 rfl rfl)
theorem dX0_feed_30 : decode cX0_feed 30 = .ok (.invokestatic 108, 3) := dk_184 0 108 (dk_at dksX0_feed_1 6 rfl rfl)
theorem dX0_feed_33 : decode cX0_feed 33 = .ok (.ifCond .eq 42, 3) := dk_153 0 42 (dk_at dksX0_feed_1 9 rfl rfl)
theorem dX0_feed_36 : decode cX0_feed 36 = .ok (.iload 4, 2) := dk_21 4 (dk_at dksX0_feed_1 12 rfl rfl)
theorem dX0_feed_38 : decode cX0_feed 38 = .ok (.i2l, 1) := dk_133 (dk_at dksX0_feed_1 14 rfl rfl)
theorem dX0_feed_39 : decode cX0_feed 39 = .ok (.lconst 0, 1) := dk_9 (dk_at dksX0_feed_1 15 rfl rfl)
theorem dX0_feed_40 : decode cX0_feed 40 = .ok (.ldc2_w 348, 3) := dk_20 1 92 (dk_at dksX0_feed_1 16 rfl rfl)
theorem dX0_feed_43 : decode cX0_feed 43 = .ok (.invokestatic 108, 3) := dk_184 0 108 (dk_at dksX0_feed_1 19 rfl rfl)
theorem dX0_feed_46 : decode cX0_feed 46 = .ok (.ifCond .eq 29, 3) := dk_153 0 29 (dk_at dksX0_feed_2 0 rfl rfl)
theorem dX0_feed_49 : decode cX0_feed 49 = .ok (.iload 5, 2) := dk_21 5 (dk_at dksX0_feed_2 3 rfl rfl)
theorem dX0_feed_51 : decode cX0_feed 51 = .ok (.i2l, 1) := dk_133 (dk_at dksX0_feed_2 5 rfl rfl)
theorem dX0_feed_52 : decode cX0_feed 52 = .ok (.lconst 0, 1) := dk_9 (dk_at dksX0_feed_2 6 rfl rfl)
theorem dX0_feed_53 : decode cX0_feed 53 = .ok (.ldc2_w 348, 3) := dk_20 1 92 (dk_at dksX0_feed_2 7 rfl rfl)
theorem dX0_feed_56 : decode cX0_feed 56 = .ok (.invokestatic 108, 3) := dk_184 0 108 (dk_at dksX0_feed_2 10 rfl rfl)
theorem dX0_feed_59 : decode cX0_feed 59 = .ok (.ifCond .eq 16, 3) := dk_153 0 16 (dk_at dksX0_feed_2 13 rfl rfl)
theorem dX0_feed_62 : decode cX0_feed 62 = .ok (.iload 6, 2) := dk_21 6 (dk_at dksX0_feed_2 16 rfl rfl)
theorem dX0_feed_64 : decode cX0_feed 64 = .ok (.i2l, 1) := dk_133 (dk_at dksX0_feed_2 18 rfl rfl)
theorem dX0_feed_65 : decode cX0_feed 65 = .ok (.lconst 0, 1) := dk_9 (dk_at dksX0_feed_2 19 rfl rfl)
theorem dX0_feed_66 : decode cX0_feed 66 = .ok (.ldc2_w 348, 3) := dk_20 1 92 (dk_at dksX0_feed_2 20 rfl rfl)
theorem dX0_feed_69 : decode cX0_feed 69 = .ok (.invokestatic 108, 3) := dk_184 0 108 (dk_at dksX0_feed_3 0 rfl rfl)
theorem dX0_feed_72 : decode cX0_feed 72 = .ok (.ifCond .ne 6, 3) := dk_154 0 6 (dk_at dksX0_feed_3 3 rfl rfl)
theorem dX0_feed_75 : decode cX0_feed 75 = .ok (.bipush (-2), 2) := dk_16 254 (dk_at dksX0_feed_3 6 rfl rfl)
theorem dX0_feed_77 : decode cX0_feed 77 = .ok (.ireturn, 1) := dk_172 (dk_at dksX0_feed_3 8 rfl rfl)
theorem dX0_feed_78 : decode cX0_feed 78 = .ok (.aload_n 0, 1) := dk_42 (dk_at dksX0_feed_3 9 rfl rfl)
theorem dX0_feed_79 : decode cX0_feed 79 = .ok (.getfield 105, 3) := dk_180 0 105 (dk_at dksX0_feed_3 10 rfl rfl)
theorem dX0_feed_82 : decode cX0_feed 82 = .ok (.iload_n 1, 1) := dk_27 (dk_at dksX0_feed_3 13 rfl rfl)
theorem dX0_feed_83 : decode cX0_feed 83 = .ok (.iadd, 1) := dk_96 (dk_at dksX0_feed_3 14 rfl rfl)
theorem dX0_feed_84 : decode cX0_feed 84 = .ok (.sipush 160, 3) := dk_17 0 160 (dk_at dksX0_feed_3 15 rfl rfl)
theorem dX0_feed_87 : decode cX0_feed 87 = .ok (.if_icmp .le 6, 3) := dk_164 0 6 (dk_at dksX0_feed_3 18 rfl rfl)
theorem dX0_feed_90 : decode cX0_feed 90 = .ok (.bipush (-4), 2) := dk_16 252 (dk_at dksX0_feed_3 21 rfl rfl)
theorem dX0_feed_92 : decode cX0_feed 92 = .ok (.ireturn, 1) := dk_172 (dk_at dksX0_feed_3 23 rfl rfl)
theorem dX0_feed_93 : decode cX0_feed 93 = .ok (.iconst 0, 1) := dk_3 (dk_at dksX0_feed_4 0 rfl rfl)
theorem dX0_feed_94 : decode cX0_feed 94 = .ok (.istore 7, 2) := dk_54 7 (dk_at dksX0_feed_4 1 rfl rfl)
theorem dX0_feed_96 : decode cX0_feed 96 = .ok (.iload 7, 2) := dk_21 7 (dk_at dksX0_feed_4 3 rfl rfl)
theorem dX0_feed_98 : decode cX0_feed 98 = .ok (.iload_n 1, 1) := dk_27 (dk_at dksX0_feed_4 5 rfl rfl)
theorem dX0_feed_99 : decode cX0_feed 99 = .ok (.if_icmp .ge 72, 3) := dk_162 0 72 (dk_at dksX0_feed_4 6 rfl rfl)
theorem dX0_feed_102 : decode cX0_feed 102 = .ok (.aload_n 0, 1) := dk_42 (dk_at dksX0_feed_4 9 rfl rfl)
theorem dX0_feed_103 : decode cX0_feed 103 = .ok (.getfield 66, 3) := dk_180 0 66 (dk_at dksX0_feed_4 10 rfl rfl)
theorem dX0_feed_106 : decode cX0_feed 106 = .ok (.aload_n 0, 1) := dk_42 (dk_at dksX0_feed_4 13 rfl rfl)
theorem dX0_feed_107 : decode cX0_feed 107 = .ok (.getfield 105, 3) := dk_180 0 105 (dk_at dksX0_feed_4 14 rfl rfl)
theorem dX0_feed_110 : decode cX0_feed 110 = .ok (.iload 7, 2) := dk_21 7 (dk_at dksX0_feed_4 17 rfl rfl)
theorem dX0_feed_112 : decode cX0_feed 112 = .ok (.ifCond .ne 7, 3) := dk_154 0 7 (dk_at dksX0_feed_4 19 rfl rfl)
theorem dX0_feed_115 : decode cX0_feed 115 = .ok (.iload_n 2, 1) := dk_28 (dk_at dksX0_feed_4 22 rfl rfl)
theorem dX0_feed_116 : decode cX0_feed 116 = .ok (.goto 37, 3) := dk_167 0 37 (dk_at dksX0_feed_5 0 rfl rfl)
theorem dX0_feed_119 : decode cX0_feed 119 = .ok (.iload 7, 2) := dk_21 7 (dk_at dksX0_feed_5 3 rfl rfl)
theorem dX0_feed_121 : decode cX0_feed 121 = .ok (.iconst 1, 1) := dk_4 (dk_at dksX0_feed_5 5 rfl rfl)
theorem dX0_feed_122 : decode cX0_feed 122 = .ok (.if_icmp .ne 7, 3) := dk_160 0 7 (dk_at dksX0_feed_5 6 rfl rfl)
theorem dX0_feed_125 : decode cX0_feed 125 = .ok (.iload_n 3, 1) := dk_29 (dk_at dksX0_feed_5 9 rfl rfl)
theorem dX0_feed_126 : decode cX0_feed 126 = .ok (.goto 27, 3) := dk_167 0 27 (dk_at dksX0_feed_5 10 rfl rfl)
theorem dX0_feed_129 : decode cX0_feed 129 = .ok (.iload 7, 2) := dk_21 7 (dk_at dksX0_feed_5 13 rfl rfl)
theorem dX0_feed_131 : decode cX0_feed 131 = .ok (.iconst 2, 1) := dk_5 (dk_at dksX0_feed_5 15 rfl rfl)
theorem dX0_feed_132 : decode cX0_feed 132 = .ok (.if_icmp .ne 8, 3) := dk_160 0 8 (dk_at dksX0_feed_5 16 rfl rfl)
theorem dX0_feed_135 : decode cX0_feed 135 = .ok (.iload 4, 2) := dk_21 4 (dk_at dksX0_feed_5 19 rfl rfl)
theorem dX0_feed_137 : decode cX0_feed 137 = .ok (.goto 16, 3) := dk_167 0 16 (dk_at dksX0_feed_5 21 rfl rfl)
theorem dX0_feed_140 : decode cX0_feed 140 = .ok (.iload 7, 2) := dk_21 7 (dk_at dksX0_feed_6 0 rfl rfl)
theorem dX0_feed_142 : decode cX0_feed 142 = .ok (.iconst 3, 1) := dk_6 (dk_at dksX0_feed_6 2 rfl rfl)
theorem dX0_feed_143 : decode cX0_feed 143 = .ok (.if_icmp .ne 8, 3) := dk_160 0 8 (dk_at dksX0_feed_6 3 rfl rfl)
theorem dX0_feed_146 : decode cX0_feed 146 = .ok (.iload 5, 2) := dk_21 5 (dk_at dksX0_feed_6 6 rfl rfl)
theorem dX0_feed_148 : decode cX0_feed 148 = .ok (.goto 5, 3) := dk_167 0 5 (dk_at dksX0_feed_6 8 rfl rfl)
theorem dX0_feed_151 : decode cX0_feed 151 = .ok (.iload 6, 2) := dk_21 6 (dk_at dksX0_feed_6 11 rfl rfl)
theorem dX0_feed_153 : decode cX0_feed 153 = .ok (.i2b, 1) := dk_145 (dk_at dksX0_feed_6 13 rfl rfl)
theorem dX0_feed_154 : decode cX0_feed 154 = .ok (.bastore, 1) := dk_84 (dk_at dksX0_feed_6 14 rfl rfl)
theorem dX0_feed_155 : decode cX0_feed 155 = .ok (.aload_n 0, 1) := dk_42 (dk_at dksX0_feed_6 15 rfl rfl)
theorem dX0_feed_156 : decode cX0_feed 156 = .ok (.dup, 1) := dk_89 (dk_at dksX0_feed_6 16 rfl rfl)
theorem dX0_feed_157 : decode cX0_feed 157 = .ok (.getfield 105, 3) := dk_180 0 105 (dk_at dksX0_feed_6 17 rfl rfl)
theorem dX0_feed_160 : decode cX0_feed 160 = .ok (.iconst 1, 1) := dk_4 (dk_at dksX0_feed_6 20 rfl rfl)
theorem dX0_feed_161 : decode cX0_feed 161 = .ok (.iadd, 1) := dk_96 (dk_at dksX0_feed_6 21 rfl rfl)
theorem dX0_feed_162 : decode cX0_feed 162 = .ok (.putfield 105, 3) := dk_181 0 105 (dk_at dksX0_feed_7 0 rfl rfl)
theorem dX0_feed_165 : decode cX0_feed 165 = .ok (.iinc 7 1, 3) := dk_132 7 1 (dk_at dksX0_feed_7 3 rfl rfl)
theorem dX0_feed_168 : decode cX0_feed 168 = .ok (.goto (-72), 3) := dk_167 255 184 (dk_at dksX0_feed_7 6 rfl rfl)
theorem dX0_feed_171 : decode cX0_feed 171 = .ok (.aload_n 0, 1) := dk_42 (dk_at dksX0_feed_7 9 rfl rfl)
theorem dX0_feed_172 : decode cX0_feed 172 = .ok (.getfield 105, 3) := dk_180 0 105 (dk_at dksX0_feed_7 10 rfl rfl)
theorem dX0_feed_175 : decode cX0_feed 175 = .ok (.ireturn, 1) := dk_172 (dk_at dksX0_feed_7 13 rfl rfl)
abbrev cX0_text : ByteArray := prog_1_method_58_code
def yX0_text : MethodName := ⟨RX0, "text", "()I"⟩
def dkwX0_text_3 : List UInt8 := [89, 180, 0, 83, 4, 96, 181, 0, 83, 42, 180, 0, 83, 4, 100, 172]
abbrev dktX0_text_3 : List UInt8 := dkwX0_text_3 ++ []
def dkwX0_text_2 : List UInt8 := [16, 156, 43, 180, 1, 96, 100, 61, 42, 3, 181, 0, 105, 28, 172, 78, 42, 3, 181, 0, 105, 45, 191, 42]
abbrev dktX0_text_2 : List UInt8 := dkwX0_text_2 ++ dktX0_text_3
def dkwX0_text_1 : List UInt8 := [42, 180, 0, 66, 42, 180, 0, 105, 183, 1, 83, 182, 1, 86, 83, 42, 3, 181, 0, 105, 167, 0, 27, 76]
abbrev dktX0_text_1 : List UInt8 := dkwX0_text_1 ++ dktX0_text_2
def dkwX0_text_0 : List UInt8 := [42, 180, 0, 83, 16, 6, 160, 0, 6, 16, 252, 172, 42, 180, 0, 62, 42, 180, 0, 83, 187, 1, 81, 89]
abbrev dktX0_text_0 : List UInt8 := dkwX0_text_0 ++ dktX0_text_1
theorem dksX0_text_0 : cX0_text.data.toList.drop 0 = dktX0_text_0 := by decide +kernel
theorem dksX0_text_1 : cX0_text.data.toList.drop 24 = dktX0_text_1 := dk_seg dksX0_text_0 24 rfl rfl
theorem dksX0_text_2 : cX0_text.data.toList.drop 48 = dktX0_text_2 := dk_seg dksX0_text_1 24 rfl rfl
theorem dksX0_text_3 : cX0_text.data.toList.drop 72 = dktX0_text_3 := dk_seg dksX0_text_2 24 rfl rfl
theorem dX0_text_0 : decode cX0_text 0 = .ok (.aload_n 0, 1) := dk_42 (dk_at dksX0_text_0 0 rfl rfl)
theorem dX0_text_1 : decode cX0_text 1 = .ok (.getfield 83, 3) := dk_180 0 83 (dk_at dksX0_text_0 1 rfl rfl)
theorem dX0_text_4 : decode cX0_text 4 = .ok (.bipush 6, 2) := dk_16 6 (dk_at dksX0_text_0 4 rfl rfl)
theorem dX0_text_6 : decode cX0_text 6 = .ok (.if_icmp .ne 6, 3) := dk_160 0 6 (dk_at dksX0_text_0 6 rfl rfl)
theorem dX0_text_9 : decode cX0_text 9 = .ok (.bipush (-4), 2) := dk_16 252 (dk_at dksX0_text_0 9 rfl rfl)
theorem dX0_text_11 : decode cX0_text 11 = .ok (.ireturn, 1) := dk_172 (dk_at dksX0_text_0 11 rfl rfl)
theorem dX0_text_12 : decode cX0_text 12 = .ok (.aload_n 0, 1) := dk_42 (dk_at dksX0_text_0 12 rfl rfl)
theorem dX0_text_13 : decode cX0_text 13 = .ok (.getfield 62, 3) := dk_180 0 62 (dk_at dksX0_text_0 13 rfl rfl)
theorem dX0_text_16 : decode cX0_text 16 = .ok (.aload_n 0, 1) := dk_42 (dk_at dksX0_text_0 16 rfl rfl)
theorem dX0_text_17 : decode cX0_text 17 = .ok (.getfield 83, 3) := dk_180 0 83 (dk_at dksX0_text_0 17 rfl rfl)
theorem dX0_text_20 : decode cX0_text 20 = .ok (.new 337, 3) := dk_187 1 81 (dk_at dksX0_text_0 20 rfl rfl)
theorem dX0_text_23 : decode cX0_text 23 = .ok (.dup, 1) := dk_89 (dk_at dksX0_text_0 23 rfl rfl)
theorem dX0_text_24 : decode cX0_text 24 = .ok (.aload_n 0, 1) := dk_42 (dk_at dksX0_text_1 0 rfl rfl)
theorem dX0_text_25 : decode cX0_text 25 = .ok (.getfield 66, 3) := dk_180 0 66 (dk_at dksX0_text_1 1 rfl rfl)
theorem dX0_text_28 : decode cX0_text 28 = .ok (.aload_n 0, 1) := dk_42 (dk_at dksX0_text_1 4 rfl rfl)
theorem dX0_text_29 : decode cX0_text 29 = .ok (.getfield 105, 3) := dk_180 0 105 (dk_at dksX0_text_1 5 rfl rfl)
theorem dX0_text_32 : decode cX0_text 32 = .ok (.invokespecial 339, 3) := dk_183 1 83 (dk_at dksX0_text_1 8 rfl rfl)
theorem dX0_text_35 : decode cX0_text 35 = .ok (.invokevirtual 342, 3) := dk_182 1 86 (dk_at dksX0_text_1 11 rfl rfl)
theorem dX0_text_38 : decode cX0_text 38 = .ok (.aastore, 1) := dk_83 (dk_at dksX0_text_1 14 rfl rfl)
theorem dX0_text_39 : decode cX0_text 39 = .ok (.aload_n 0, 1) := dk_42 (dk_at dksX0_text_1 15 rfl rfl)
theorem dX0_text_40 : decode cX0_text 40 = .ok (.iconst 0, 1) := dk_3 (dk_at dksX0_text_1 16 rfl rfl)
theorem dX0_text_41 : decode cX0_text 41 = .ok (.putfield 105, 3) := dk_181 0 105 (dk_at dksX0_text_1 17 rfl rfl)
theorem dX0_text_44 : decode cX0_text 44 = .ok (.goto 27, 3) := dk_167 0 27 (dk_at dksX0_text_1 20 rfl rfl)
theorem dX0_text_47 : decode cX0_text 47 = .ok (.astore_n 1, 1) := dk_76 (dk_at dksX0_text_1 23 rfl rfl)
theorem dX0_text_48 : decode cX0_text 48 = .ok (.bipush (-100), 2) := dk_16 156 (dk_at dksX0_text_2 0 rfl rfl)
theorem dX0_text_50 : decode cX0_text 50 = .ok (.aload_n 1, 1) := dk_43 (dk_at dksX0_text_2 2 rfl rfl)
theorem dX0_text_51 : decode cX0_text 51 = .ok (.getfield 352, 3) := dk_180 1 96 (dk_at dksX0_text_2 3 rfl rfl)
theorem dX0_text_54 : decode cX0_text 54 = .ok (.isub, 1) := dk_100 (dk_at dksX0_text_2 6 rfl rfl)
theorem dX0_text_55 : decode cX0_text 55 = .ok (.istore_n 2, 1) := dk_61 (dk_at dksX0_text_2 7 rfl rfl)
theorem dX0_text_56 : decode cX0_text 56 = .ok (.aload_n 0, 1) := dk_42 (dk_at dksX0_text_2 8 rfl rfl)
theorem dX0_text_57 : decode cX0_text 57 = .ok (.iconst 0, 1) := dk_3 (dk_at dksX0_text_2 9 rfl rfl)
theorem dX0_text_58 : decode cX0_text 58 = .ok (.putfield 105, 3) := dk_181 0 105 (dk_at dksX0_text_2 10 rfl rfl)
theorem dX0_text_61 : decode cX0_text 61 = .ok (.iload_n 2, 1) := dk_28 (dk_at dksX0_text_2 13 rfl rfl)
theorem dX0_text_62 : decode cX0_text 62 = .ok (.ireturn, 1) := dk_172 (dk_at dksX0_text_2 14 rfl rfl)
theorem dX0_text_63 : decode cX0_text 63 = .ok (.astore_n 3, 1) := dk_78 (dk_at dksX0_text_2 15 rfl rfl)
theorem dX0_text_64 : decode cX0_text 64 = .ok (.aload_n 0, 1) := dk_42 (dk_at dksX0_text_2 16 rfl rfl)
theorem dX0_text_65 : decode cX0_text 65 = .ok (.iconst 0, 1) := dk_3 (dk_at dksX0_text_2 17 rfl rfl)
theorem dX0_text_66 : decode cX0_text 66 = .ok (.putfield 105, 3) := dk_181 0 105 (dk_at dksX0_text_2 18 rfl rfl)
theorem dX0_text_69 : decode cX0_text 69 = .ok (.aload_n 3, 1) := dk_45 (dk_at dksX0_text_2 21 rfl rfl)
theorem dX0_text_70 : decode cX0_text 70 = .ok (.athrow, 1) := dk_191 (dk_at dksX0_text_2 22 rfl rfl)
theorem dX0_text_71 : decode cX0_text 71 = .ok (.aload_n 0, 1) := dk_42 (dk_at dksX0_text_2 23 rfl rfl)
theorem dX0_text_72 : decode cX0_text 72 = .ok (.dup, 1) := dk_89 (dk_at dksX0_text_3 0 rfl rfl)
theorem dX0_text_73 : decode cX0_text 73 = .ok (.getfield 83, 3) := dk_180 0 83 (dk_at dksX0_text_3 1 rfl rfl)
theorem dX0_text_76 : decode cX0_text 76 = .ok (.iconst 1, 1) := dk_4 (dk_at dksX0_text_3 4 rfl rfl)
theorem dX0_text_77 : decode cX0_text 77 = .ok (.iadd, 1) := dk_96 (dk_at dksX0_text_3 5 rfl rfl)
theorem dX0_text_78 : decode cX0_text 78 = .ok (.putfield 83, 3) := dk_181 0 83 (dk_at dksX0_text_3 6 rfl rfl)
theorem dX0_text_81 : decode cX0_text 81 = .ok (.aload_n 0, 1) := dk_42 (dk_at dksX0_text_3 9 rfl rfl)
theorem dX0_text_82 : decode cX0_text 82 = .ok (.getfield 83, 3) := dk_180 0 83 (dk_at dksX0_text_3 10 rfl rfl)
theorem dX0_text_85 : decode cX0_text 85 = .ok (.iconst 1, 1) := dk_4 (dk_at dksX0_text_3 13 rfl rfl)
theorem dX0_text_86 : decode cX0_text 86 = .ok (.isub, 1) := dk_100 (dk_at dksX0_text_3 14 rfl rfl)
theorem dX0_text_87 : decode cX0_text 87 = .ok (.ireturn, 1) := dk_172 (dk_at dksX0_text_3 15 rfl rfl)
abbrev cX0_force : ByteArray := prog_1_method_59_code
def yX0_force : MethodName := ⟨RX0, "force", "(I)I"⟩
def dkwX0_force_1 : List UInt8 := [42, 27, 181, 0, 102, 28, 172]
abbrev dktX0_force_1 : List UInt8 := dkwX0_force_1 ++ []
def dkwX0_force_0 : List UInt8 := [27, 133, 9, 42, 180, 0, 83, 133, 10, 101, 184, 0, 108, 154, 0, 6, 16, 254, 172, 42, 180, 0, 102, 61]
abbrev dktX0_force_0 : List UInt8 := dkwX0_force_0 ++ dktX0_force_1
theorem dksX0_force_0 : cX0_force.data.toList.drop 0 = dktX0_force_0 := by decide +kernel
theorem dksX0_force_1 : cX0_force.data.toList.drop 24 = dktX0_force_1 := dk_seg dksX0_force_0 24 rfl rfl
theorem dX0_force_0 : decode cX0_force 0 = .ok (.iload_n 1, 1) := dk_27 (dk_at dksX0_force_0 0 rfl rfl)
theorem dX0_force_1 : decode cX0_force 1 = .ok (.i2l, 1) := dk_133 (dk_at dksX0_force_0 1 rfl rfl)
theorem dX0_force_2 : decode cX0_force 2 = .ok (.lconst 0, 1) := dk_9 (dk_at dksX0_force_0 2 rfl rfl)
theorem dX0_force_3 : decode cX0_force 3 = .ok (.aload_n 0, 1) := dk_42 (dk_at dksX0_force_0 3 rfl rfl)
theorem dX0_force_4 : decode cX0_force 4 = .ok (.getfield 83, 3) := dk_180 0 83 (dk_at dksX0_force_0 4 rfl rfl)
theorem dX0_force_7 : decode cX0_force 7 = .ok (.i2l, 1) := dk_133 (dk_at dksX0_force_0 7 rfl rfl)
theorem dX0_force_8 : decode cX0_force 8 = .ok (.lconst 1, 1) := dk_10 (dk_at dksX0_force_0 8 rfl rfl)
theorem dX0_force_9 : decode cX0_force 9 = .ok (.lsub, 1) := dk_101 (dk_at dksX0_force_0 9 rfl rfl)
theorem dX0_force_10 : decode cX0_force 10 = .ok (.invokestatic 108, 3) := dk_184 0 108 (dk_at dksX0_force_0 10 rfl rfl)
theorem dX0_force_13 : decode cX0_force 13 = .ok (.ifCond .ne 6, 3) := dk_154 0 6 (dk_at dksX0_force_0 13 rfl rfl)
theorem dX0_force_16 : decode cX0_force 16 = .ok (.bipush (-2), 2) := dk_16 254 (dk_at dksX0_force_0 16 rfl rfl)
theorem dX0_force_18 : decode cX0_force 18 = .ok (.ireturn, 1) := dk_172 (dk_at dksX0_force_0 18 rfl rfl)
theorem dX0_force_19 : decode cX0_force 19 = .ok (.aload_n 0, 1) := dk_42 (dk_at dksX0_force_0 19 rfl rfl)
theorem dX0_force_20 : decode cX0_force 20 = .ok (.getfield 102, 3) := dk_180 0 102 (dk_at dksX0_force_0 20 rfl rfl)
theorem dX0_force_23 : decode cX0_force 23 = .ok (.istore_n 2, 1) := dk_61 (dk_at dksX0_force_0 23 rfl rfl)
theorem dX0_force_24 : decode cX0_force 24 = .ok (.aload_n 0, 1) := dk_42 (dk_at dksX0_force_1 0 rfl rfl)
theorem dX0_force_25 : decode cX0_force 25 = .ok (.iload_n 1, 1) := dk_27 (dk_at dksX0_force_1 1 rfl rfl)
theorem dX0_force_26 : decode cX0_force 26 = .ok (.putfield 102, 3) := dk_181 0 102 (dk_at dksX0_force_1 2 rfl rfl)
theorem dX0_force_29 : decode cX0_force 29 = .ok (.iload_n 2, 1) := dk_28 (dk_at dksX0_force_1 5 rfl rfl)
theorem dX0_force_30 : decode cX0_force 30 = .ok (.ireturn, 1) := dk_172 (dk_at dksX0_force_1 6 rfl rfl)
abbrev cX0_sheet : ByteArray := prog_1_method_63_code
def yX0_sheet : MethodName := ⟨RX0, "sheet", "(III)I"⟩
def dkwX0_sheet_3 : List UInt8 := [181, 0, 252, 42, 180, 0, 73, 27, 50, 180, 0, 254, 3, 184, 1, 40, 4, 172]
abbrev dktX0_sheet_3 : List UInt8 := dkwX0_sheet_3 ++ []
def dkwX0_sheet_2 : List UInt8 := [180, 0, 73, 27, 50, 28, 181, 0, 249, 42, 180, 0, 73, 27, 50, 28, 156, 0, 7, 3, 167, 0, 4, 29]
abbrev dktX0_sheet_2 : List UInt8 := dkwX0_sheet_2 ++ dktX0_sheet_3
def dkwX0_sheet_1 : List UInt8 := [155, 0, 12, 29, 16, 40, 164, 0, 6, 16, 254, 172, 28, 155, 0, 10, 29, 156, 0, 6, 16, 242, 172, 42]
abbrev dktX0_sheet_1 : List UInt8 := dkwX0_sheet_1 ++ dktX0_sheet_2
def dkwX0_sheet_0 : List UInt8 := [27, 184, 0, 246, 153, 0, 27, 28, 133, 20, 1, 104, 20, 0, 135, 184, 0, 108, 153, 0, 13, 28]
abbrev dktX0_sheet_0 : List UInt8 := dkwX0_sheet_0 ++ dktX0_sheet_1
theorem dksX0_sheet_0 : cX0_sheet.data.toList.drop 0 = dktX0_sheet_0 := by decide +kernel
theorem dksX0_sheet_1 : cX0_sheet.data.toList.drop 22 = dktX0_sheet_1 := dk_seg dksX0_sheet_0 22 rfl rfl
theorem dksX0_sheet_2 : cX0_sheet.data.toList.drop 46 = dktX0_sheet_2 := dk_seg dksX0_sheet_1 24 rfl rfl
theorem dksX0_sheet_3 : cX0_sheet.data.toList.drop 70 = dktX0_sheet_3 := dk_seg dksX0_sheet_2 24 rfl rfl
theorem dX0_sheet_0 : decode cX0_sheet 0 = .ok (.iload_n 1, 1) := dk_27 (dk_at dksX0_sheet_0 0 rfl rfl)
theorem dX0_sheet_1 : decode cX0_sheet 1 = .ok (.invokestatic 246, 3) := dk_184 0 246 (dk_at dksX0_sheet_0 1 rfl rfl)
theorem dX0_sheet_4 : decode cX0_sheet 4 = .ok (.ifCond .eq 27, 3) := dk_153 0 27 (dk_at dksX0_sheet_0 4 rfl rfl)
theorem dX0_sheet_7 : decode cX0_sheet 7 = .ok (.iload_n 2, 1) := dk_28 (dk_at dksX0_sheet_0 7 rfl rfl)
theorem dX0_sheet_8 : decode cX0_sheet 8 = .ok (.i2l, 1) := dk_133 (dk_at dksX0_sheet_0 8 rfl rfl)
theorem dX0_sheet_9 : decode cX0_sheet 9 = .ok (.ldc2_w 360, 3) := dk_20 1 104 (dk_at dksX0_sheet_0 9 rfl rfl)
theorem dX0_sheet_12 : decode cX0_sheet 12 = .ok (.ldc2_w 135, 3) := dk_20 0 135 (dk_at dksX0_sheet_0 12 rfl rfl)
theorem dX0_sheet_15 : decode cX0_sheet 15 = .ok (.invokestatic 108, 3) := dk_184 0 108 (dk_at dksX0_sheet_0 15 rfl rfl)
theorem dX0_sheet_18 : decode cX0_sheet 18 = .ok (.ifCond .eq 13, 3) := dk_153 0 13 (dk_at dksX0_sheet_0 18 rfl rfl)
theorem dX0_sheet_21 : decode cX0_sheet 21 = .ok (.iload_n 2, 1) := dk_28 (dk_at dksX0_sheet_0 21 rfl rfl)
theorem dX0_sheet_22 : decode cX0_sheet 22 = .ok (.ifCond .lt 12, 3) := dk_155 0 12 (dk_at dksX0_sheet_1 0 rfl rfl)
theorem dX0_sheet_25 : decode cX0_sheet 25 = .ok (.iload_n 3, 1) := dk_29 (dk_at dksX0_sheet_1 3 rfl rfl)
theorem dX0_sheet_26 : decode cX0_sheet 26 = .ok (.bipush 40, 2) := dk_16 40 (dk_at dksX0_sheet_1 4 rfl rfl)
theorem dX0_sheet_28 : decode cX0_sheet 28 = .ok (.if_icmp .le 6, 3) := dk_164 0 6 (dk_at dksX0_sheet_1 6 rfl rfl)
theorem dX0_sheet_31 : decode cX0_sheet 31 = .ok (.bipush (-2), 2) := dk_16 254 (dk_at dksX0_sheet_1 9 rfl rfl)
theorem dX0_sheet_33 : decode cX0_sheet 33 = .ok (.ireturn, 1) := dk_172 (dk_at dksX0_sheet_1 11 rfl rfl)
theorem dX0_sheet_34 : decode cX0_sheet 34 = .ok (.iload_n 2, 1) := dk_28 (dk_at dksX0_sheet_1 12 rfl rfl)
theorem dX0_sheet_35 : decode cX0_sheet 35 = .ok (.ifCond .lt 10, 3) := dk_155 0 10 (dk_at dksX0_sheet_1 13 rfl rfl)
theorem dX0_sheet_38 : decode cX0_sheet 38 = .ok (.iload_n 3, 1) := dk_29 (dk_at dksX0_sheet_1 16 rfl rfl)
theorem dX0_sheet_39 : decode cX0_sheet 39 = .ok (.ifCond .ge 6, 3) := dk_156 0 6 (dk_at dksX0_sheet_1 17 rfl rfl)
theorem dX0_sheet_42 : decode cX0_sheet 42 = .ok (.bipush (-14), 2) := dk_16 242 (dk_at dksX0_sheet_1 20 rfl rfl)
theorem dX0_sheet_44 : decode cX0_sheet 44 = .ok (.ireturn, 1) := dk_172 (dk_at dksX0_sheet_1 22 rfl rfl)
theorem dX0_sheet_45 : decode cX0_sheet 45 = .ok (.aload_n 0, 1) := dk_42 (dk_at dksX0_sheet_1 23 rfl rfl)
theorem dX0_sheet_46 : decode cX0_sheet 46 = .ok (.getfield 73, 3) := dk_180 0 73 (dk_at dksX0_sheet_2 0 rfl rfl)
theorem dX0_sheet_49 : decode cX0_sheet 49 = .ok (.iload_n 1, 1) := dk_27 (dk_at dksX0_sheet_2 3 rfl rfl)
theorem dX0_sheet_50 : decode cX0_sheet 50 = .ok (.aaload, 1) := dk_50 (dk_at dksX0_sheet_2 4 rfl rfl)
theorem dX0_sheet_51 : decode cX0_sheet 51 = .ok (.iload_n 2, 1) := dk_28 (dk_at dksX0_sheet_2 5 rfl rfl)
theorem dX0_sheet_52 : decode cX0_sheet 52 = .ok (.putfield 249, 3) := dk_181 0 249 (dk_at dksX0_sheet_2 6 rfl rfl)
theorem dX0_sheet_55 : decode cX0_sheet 55 = .ok (.aload_n 0, 1) := dk_42 (dk_at dksX0_sheet_2 9 rfl rfl)
theorem dX0_sheet_56 : decode cX0_sheet 56 = .ok (.getfield 73, 3) := dk_180 0 73 (dk_at dksX0_sheet_2 10 rfl rfl)
theorem dX0_sheet_59 : decode cX0_sheet 59 = .ok (.iload_n 1, 1) := dk_27 (dk_at dksX0_sheet_2 13 rfl rfl)
theorem dX0_sheet_60 : decode cX0_sheet 60 = .ok (.aaload, 1) := dk_50 (dk_at dksX0_sheet_2 14 rfl rfl)
theorem dX0_sheet_61 : decode cX0_sheet 61 = .ok (.iload_n 2, 1) := dk_28 (dk_at dksX0_sheet_2 15 rfl rfl)
theorem dX0_sheet_62 : decode cX0_sheet 62 = .ok (.ifCond .ge 7, 3) := dk_156 0 7 (dk_at dksX0_sheet_2 16 rfl rfl)
theorem dX0_sheet_65 : decode cX0_sheet 65 = .ok (.iconst 0, 1) := dk_3 (dk_at dksX0_sheet_2 19 rfl rfl)
theorem dX0_sheet_66 : decode cX0_sheet 66 = .ok (.goto 4, 3) := dk_167 0 4 (dk_at dksX0_sheet_2 20 rfl rfl)
theorem dX0_sheet_69 : decode cX0_sheet 69 = .ok (.iload_n 3, 1) := dk_29 (dk_at dksX0_sheet_2 23 rfl rfl)
theorem dX0_sheet_70 : decode cX0_sheet 70 = .ok (.putfield 252, 3) := dk_181 0 252 (dk_at dksX0_sheet_3 0 rfl rfl)
theorem dX0_sheet_73 : decode cX0_sheet 73 = .ok (.aload_n 0, 1) := dk_42 (dk_at dksX0_sheet_3 3 rfl rfl)
theorem dX0_sheet_74 : decode cX0_sheet 74 = .ok (.getfield 73, 3) := dk_180 0 73 (dk_at dksX0_sheet_3 4 rfl rfl)
theorem dX0_sheet_77 : decode cX0_sheet 77 = .ok (.iload_n 1, 1) := dk_27 (dk_at dksX0_sheet_3 7 rfl rfl)
theorem dX0_sheet_78 : decode cX0_sheet 78 = .ok (.aaload, 1) := dk_50 (dk_at dksX0_sheet_3 8 rfl rfl)
theorem dX0_sheet_79 : decode cX0_sheet 79 = .ok (.getfield 254, 3) := dk_180 0 254 (dk_at dksX0_sheet_3 9 rfl rfl)
theorem dX0_sheet_82 : decode cX0_sheet 82 = .ok (.iconst 0, 1) := dk_3 (dk_at dksX0_sheet_3 12 rfl rfl)
theorem dX0_sheet_83 : decode cX0_sheet 83 = .ok (.invokestatic 296, 3) := dk_184 1 40 (dk_at dksX0_sheet_3 13 rfl rfl)
theorem dX0_sheet_86 : decode cX0_sheet 86 = .ok (.iconst 1, 1) := dk_4 (dk_at dksX0_sheet_3 16 rfl rfl)
theorem dX0_sheet_87 : decode cX0_sheet 87 = .ok (.ireturn, 1) := dk_172 (dk_at dksX0_sheet_3 17 rfl rfl)
abbrev cX0_cell : ByteArray := prog_1_method_64_code
def yX0_cell : MethodName := ⟨RX0, "cell", "(III)I"⟩
def dkwX0_cell_2 : List UInt8 := [58, 4, 25, 4, 180, 1, 118, 172]
abbrev dktX0_cell_2 : List UInt8 := dkwX0_cell_2 ++ []
def dkwX0_cell_1 : List UInt8 := [180, 0, 252, 133, 10, 101, 184, 0, 108, 16, 244, 184, 1, 110, 25, 4, 28, 29, 182, 1, 114, 4, 172]
abbrev dktX0_cell_1 : List UInt8 := dkwX0_cell_1 ++ dktX0_cell_2
def dkwX0_cell_0 : List UInt8 := [27, 184, 0, 246, 154, 0, 6, 16, 254, 172, 42, 27, 182, 1, 106, 58, 4, 28, 133, 9, 25, 4]
abbrev dktX0_cell_0 : List UInt8 := dkwX0_cell_0 ++ dktX0_cell_1
theorem dksX0_cell_0 : cX0_cell.data.toList.drop 0 = dktX0_cell_0 := by decide +kernel
theorem dksX0_cell_1 : cX0_cell.data.toList.drop 22 = dktX0_cell_1 := dk_seg dksX0_cell_0 22 rfl rfl
theorem dksX0_cell_2 : cX0_cell.data.toList.drop 45 = dktX0_cell_2 := dk_seg dksX0_cell_1 23 rfl rfl
theorem dX0_cell_0 : decode cX0_cell 0 = .ok (.iload_n 1, 1) := dk_27 (dk_at dksX0_cell_0 0 rfl rfl)
theorem dX0_cell_1 : decode cX0_cell 1 = .ok (.invokestatic 246, 3) := dk_184 0 246 (dk_at dksX0_cell_0 1 rfl rfl)
theorem dX0_cell_4 : decode cX0_cell 4 = .ok (.ifCond .ne 6, 3) := dk_154 0 6 (dk_at dksX0_cell_0 4 rfl rfl)
theorem dX0_cell_7 : decode cX0_cell 7 = .ok (.bipush (-2), 2) := dk_16 254 (dk_at dksX0_cell_0 7 rfl rfl)
theorem dX0_cell_9 : decode cX0_cell 9 = .ok (.ireturn, 1) := dk_172 (dk_at dksX0_cell_0 9 rfl rfl)
theorem dX0_cell_10 : decode cX0_cell 10 = .ok (.aload_n 0, 1) := dk_42 (dk_at dksX0_cell_0 10 rfl rfl)
theorem dX0_cell_11 : decode cX0_cell 11 = .ok (.iload_n 1, 1) := dk_27 (dk_at dksX0_cell_0 11 rfl rfl)
theorem dX0_cell_12 : decode cX0_cell 12 = .ok (.invokevirtual 362, 3) := dk_182 1 106 (dk_at dksX0_cell_0 12 rfl rfl)
theorem dX0_cell_15 : decode cX0_cell 15 = .ok (.astore 4, 2) := dk_58 4 (dk_at dksX0_cell_0 15 rfl rfl)
theorem dX0_cell_17 : decode cX0_cell 17 = .ok (.iload_n 2, 1) := dk_28 (dk_at dksX0_cell_0 17 rfl rfl)
theorem dX0_cell_18 : decode cX0_cell 18 = .ok (.i2l, 1) := dk_133 (dk_at dksX0_cell_0 18 rfl rfl)
theorem dX0_cell_19 : decode cX0_cell 19 = .ok (.lconst 0, 1) := dk_9 (dk_at dksX0_cell_0 19 rfl rfl)
theorem dX0_cell_20 : decode cX0_cell 20 = .ok (.aload 4, 2) := dk_25 4 (dk_at dksX0_cell_0 20 rfl rfl)
theorem dX0_cell_22 : decode cX0_cell 22 = .ok (.getfield 252, 3) := dk_180 0 252 (dk_at dksX0_cell_1 0 rfl rfl)
theorem dX0_cell_25 : decode cX0_cell 25 = .ok (.i2l, 1) := dk_133 (dk_at dksX0_cell_1 3 rfl rfl)
theorem dX0_cell_26 : decode cX0_cell 26 = .ok (.lconst 1, 1) := dk_10 (dk_at dksX0_cell_1 4 rfl rfl)
theorem dX0_cell_27 : decode cX0_cell 27 = .ok (.lsub, 1) := dk_101 (dk_at dksX0_cell_1 5 rfl rfl)
theorem dX0_cell_28 : decode cX0_cell 28 = .ok (.invokestatic 108, 3) := dk_184 0 108 (dk_at dksX0_cell_1 6 rfl rfl)
theorem dX0_cell_31 : decode cX0_cell 31 = .ok (.bipush (-12), 2) := dk_16 244 (dk_at dksX0_cell_1 9 rfl rfl)
theorem dX0_cell_33 : decode cX0_cell 33 = .ok (.invokestatic 366, 3) := dk_184 1 110 (dk_at dksX0_cell_1 11 rfl rfl)
theorem dX0_cell_36 : decode cX0_cell 36 = .ok (.aload 4, 2) := dk_25 4 (dk_at dksX0_cell_1 14 rfl rfl)
theorem dX0_cell_38 : decode cX0_cell 38 = .ok (.iload_n 2, 1) := dk_28 (dk_at dksX0_cell_1 16 rfl rfl)
theorem dX0_cell_39 : decode cX0_cell 39 = .ok (.iload_n 3, 1) := dk_29 (dk_at dksX0_cell_1 17 rfl rfl)
theorem dX0_cell_40 : decode cX0_cell 40 = .ok (.invokevirtual 370, 3) := dk_182 1 114 (dk_at dksX0_cell_1 18 rfl rfl)
theorem dX0_cell_43 : decode cX0_cell 43 = .ok (.iconst 1, 1) := dk_4 (dk_at dksX0_cell_1 21 rfl rfl)
theorem dX0_cell_44 : decode cX0_cell 44 = .ok (.ireturn, 1) := dk_172 (dk_at dksX0_cell_1 22 rfl rfl)
theorem dX0_cell_45 : decode cX0_cell 45 = .ok (.astore 4, 2) := dk_58 4 (dk_at dksX0_cell_2 0 rfl rfl)
theorem dX0_cell_47 : decode cX0_cell 47 = .ok (.aload 4, 2) := dk_25 4 (dk_at dksX0_cell_2 2 rfl rfl)
theorem dX0_cell_49 : decode cX0_cell 49 = .ok (.getfield 374, 3) := dk_180 1 118 (dk_at dksX0_cell_2 4 rfl rfl)
theorem dX0_cell_52 : decode cX0_cell 52 = .ok (.ireturn, 1) := dk_172 (dk_at dksX0_cell_2 7 rfl rfl)
abbrev cX0_there : ByteArray := prog_1_method_61_code
def yX0_there : MethodName := ⟨RX0, "there", "(I)LNameThrownBack$Sheet;"⟩
def dkwX0_there_1 : List UInt8 := [180, 0, 73, 27, 50, 176]
abbrev dktX0_there_1 : List UInt8 := dkwX0_there_1 ++ []
def dkwX0_there_0 : List UInt8 := [42, 180, 0, 73, 27, 50, 180, 0, 249, 156, 0, 13, 187, 1, 99, 89, 16, 245, 183, 1, 101, 191, 42]
abbrev dktX0_there_0 : List UInt8 := dkwX0_there_0 ++ dktX0_there_1
theorem dksX0_there_0 : cX0_there.data.toList.drop 0 = dktX0_there_0 := by decide +kernel
theorem dksX0_there_1 : cX0_there.data.toList.drop 23 = dktX0_there_1 := dk_seg dksX0_there_0 23 rfl rfl
theorem dX0_there_0 : decode cX0_there 0 = .ok (.aload_n 0, 1) := dk_42 (dk_at dksX0_there_0 0 rfl rfl)
theorem dX0_there_1 : decode cX0_there 1 = .ok (.getfield 73, 3) := dk_180 0 73 (dk_at dksX0_there_0 1 rfl rfl)
theorem dX0_there_4 : decode cX0_there 4 = .ok (.iload_n 1, 1) := dk_27 (dk_at dksX0_there_0 4 rfl rfl)
theorem dX0_there_5 : decode cX0_there 5 = .ok (.aaload, 1) := dk_50 (dk_at dksX0_there_0 5 rfl rfl)
theorem dX0_there_6 : decode cX0_there 6 = .ok (.getfield 249, 3) := dk_180 0 249 (dk_at dksX0_there_0 6 rfl rfl)
theorem dX0_there_9 : decode cX0_there 9 = .ok (.ifCond .ge 13, 3) := dk_156 0 13 (dk_at dksX0_there_0 9 rfl rfl)
theorem dX0_there_12 : decode cX0_there 12 = .ok (.new 355, 3) := dk_187 1 99 (dk_at dksX0_there_0 12 rfl rfl)
theorem dX0_there_15 : decode cX0_there 15 = .ok (.dup, 1) := dk_89 (dk_at dksX0_there_0 15 rfl rfl)
theorem dX0_there_16 : decode cX0_there 16 = .ok (.bipush (-11), 2) := dk_16 245 (dk_at dksX0_there_0 16 rfl rfl)
theorem dX0_there_18 : decode cX0_there 18 = .ok (.invokespecial 357, 3) := dk_183 1 101 (dk_at dksX0_there_0 18 rfl rfl)
theorem dX0_there_21 : decode cX0_there 21 = .ok (.athrow, 1) := dk_191 (dk_at dksX0_there_0 21 rfl rfl)
theorem dX0_there_22 : decode cX0_there 22 = .ok (.aload_n 0, 1) := dk_42 (dk_at dksX0_there_0 22 rfl rfl)
theorem dX0_there_23 : decode cX0_there 23 = .ok (.getfield 73, 3) := dk_180 0 73 (dk_at dksX0_there_1 0 rfl rfl)
theorem dX0_there_26 : decode cX0_there 26 = .ok (.iload_n 1, 1) := dk_27 (dk_at dksX0_there_1 3 rfl rfl)
theorem dX0_there_27 : decode cX0_there 27 = .ok (.aaload, 1) := dk_50 (dk_at dksX0_there_1 4 rfl rfl)
theorem dX0_there_28 : decode cX0_there 28 = .ok (.areturn, 1) := dk_176 (dk_at dksX0_there_1 5 rfl rfl)
abbrev cX0_need : ByteArray := prog_1_method_62_code
def yX0_need : MethodName := ⟨RX0, "need", "(ZI)V"⟩
def dkwX0_need_0 : List UInt8 := [26, 154, 0, 12, 187, 1, 99, 89, 27, 183, 1, 101, 191, 177]
abbrev dktX0_need_0 : List UInt8 := dkwX0_need_0 ++ []
theorem dksX0_need_0 : cX0_need.data.toList.drop 0 = dktX0_need_0 := by decide +kernel
theorem dX0_need_0 : decode cX0_need 0 = .ok (.iload_n 0, 1) := dk_26 (dk_at dksX0_need_0 0 rfl rfl)
theorem dX0_need_1 : decode cX0_need 1 = .ok (.ifCond .ne 12, 3) := dk_154 0 12 (dk_at dksX0_need_0 1 rfl rfl)
theorem dX0_need_4 : decode cX0_need 4 = .ok (.new 355, 3) := dk_187 1 99 (dk_at dksX0_need_0 4 rfl rfl)
theorem dX0_need_7 : decode cX0_need 7 = .ok (.dup, 1) := dk_89 (dk_at dksX0_need_0 7 rfl rfl)
theorem dX0_need_8 : decode cX0_need 8 = .ok (.iload_n 1, 1) := dk_27 (dk_at dksX0_need_0 8 rfl rfl)
theorem dX0_need_9 : decode cX0_need 9 = .ok (.invokespecial 357, 3) := dk_183 1 101 (dk_at dksX0_need_0 9 rfl rfl)
theorem dX0_need_12 : decode cX0_need 12 = .ok (.athrow, 1) := dk_191 (dk_at dksX0_need_0 12 rfl rfl)
theorem dX0_need_13 : decode cX0_need 13 = .ok (.return_, 1) := dk_177 (dk_at dksX0_need_0 13 rfl rfl)
abbrev cX0_copy : ByteArray := prog_1_method_65_code
def yX0_copy : MethodName := ⟨RX0, "copy", "(IIIII)I"⟩
def dkwX0_copy_5 : List UInt8 := [184, 0, 234, 21, 5, 172, 58, 6, 25, 6, 180, 1, 118, 172]
abbrev dktX0_copy_5 : List UInt8 := dkwX0_copy_5 ++ []
def dkwX0_copy_4 : List UInt8 := [167, 0, 4, 3, 16, 244, 184, 1, 110, 25, 6, 180, 0, 254, 28, 25, 7, 180, 0, 254, 21, 4, 21, 5]
abbrev dktX0_copy_4 : List UInt8 := dkwX0_copy_4 ++ dktX0_copy_5
def dkwX0_copy_3 : List UInt8 := [180, 0, 252, 21, 5, 100, 163, 0, 20, 21, 4, 25, 7, 180, 0, 252, 21, 5, 100, 163, 0, 7, 4]
abbrev dktX0_copy_3 : List UInt8 := dkwX0_copy_3 ++ dktX0_copy_4
def dkwX0_copy_2 : List UInt8 := [3, 16, 243, 184, 1, 110, 21, 5, 155, 0, 41, 28, 155, 0, 37, 21, 4, 155, 0, 32, 28, 25, 6]
abbrev dktX0_copy_2 : List UInt8 := dkwX0_copy_2 ++ dktX0_copy_3
def dkwX0_copy_1 : List UInt8 := [42, 29, 182, 1, 106, 58, 7, 25, 6, 180, 0, 249, 25, 7, 180, 0, 249, 160, 0, 7, 4, 167, 0, 4]
abbrev dktX0_copy_1 : List UInt8 := dkwX0_copy_1 ++ dktX0_copy_2
def dkwX0_copy_0 : List UInt8 := [27, 184, 0, 246, 153, 0, 10, 29, 184, 0, 246, 154, 0, 6, 16, 254, 172, 42, 27, 182, 1, 106, 58, 6]
abbrev dktX0_copy_0 : List UInt8 := dkwX0_copy_0 ++ dktX0_copy_1
theorem dksX0_copy_0 : cX0_copy.data.toList.drop 0 = dktX0_copy_0 := by decide +kernel
theorem dksX0_copy_1 : cX0_copy.data.toList.drop 24 = dktX0_copy_1 := dk_seg dksX0_copy_0 24 rfl rfl
theorem dksX0_copy_2 : cX0_copy.data.toList.drop 48 = dktX0_copy_2 := dk_seg dksX0_copy_1 24 rfl rfl
theorem dksX0_copy_3 : cX0_copy.data.toList.drop 71 = dktX0_copy_3 := dk_seg dksX0_copy_2 23 rfl rfl
theorem dksX0_copy_4 : cX0_copy.data.toList.drop 94 = dktX0_copy_4 := dk_seg dksX0_copy_3 23 rfl rfl
theorem dksX0_copy_5 : cX0_copy.data.toList.drop 118 = dktX0_copy_5 := dk_seg dksX0_copy_4 24 rfl rfl
theorem dX0_copy_0 : decode cX0_copy 0 = .ok (.iload_n 1, 1) := dk_27 (dk_at dksX0_copy_0 0 rfl rfl)
theorem dX0_copy_1 : decode cX0_copy 1 = .ok (.invokestatic 246, 3) := dk_184 0 246 (dk_at dksX0_copy_0 1 rfl rfl)
theorem dX0_copy_4 : decode cX0_copy 4 = .ok (.ifCond .eq 10, 3) := dk_153 0 10 (dk_at dksX0_copy_0 4 rfl rfl)
theorem dX0_copy_7 : decode cX0_copy 7 = .ok (.iload_n 3, 1) := dk_29 (dk_at dksX0_copy_0 7 rfl rfl)
theorem dX0_copy_8 : decode cX0_copy 8 = .ok (.invokestatic 246, 3) := dk_184 0 246 (dk_at dksX0_copy_0 8 rfl rfl)
theorem dX0_copy_11 : decode cX0_copy 11 = .ok (.ifCond .ne 6, 3) := dk_154 0 6 (dk_at dksX0_copy_0 11 rfl rfl)
theorem dX0_copy_14 : decode cX0_copy 14 = .ok (.bipush (-2), 2) := dk_16 254 (dk_at dksX0_copy_0 14 rfl rfl)
theorem dX0_copy_16 : decode cX0_copy 16 = .ok (.ireturn, 1) := dk_172 (dk_at dksX0_copy_0 16 rfl rfl)
theorem dX0_copy_17 : decode cX0_copy 17 = .ok (.aload_n 0, 1) := dk_42 (dk_at dksX0_copy_0 17 rfl rfl)
theorem dX0_copy_18 : decode cX0_copy 18 = .ok (.iload_n 1, 1) := dk_27 (dk_at dksX0_copy_0 18 rfl rfl)
theorem dX0_copy_19 : decode cX0_copy 19 = .ok (.invokevirtual 362, 3) := dk_182 1 106 (dk_at dksX0_copy_0 19 rfl rfl)
theorem dX0_copy_22 : decode cX0_copy 22 = .ok (.astore 6, 2) := dk_58 6 (dk_at dksX0_copy_0 22 rfl rfl)
theorem dX0_copy_24 : decode cX0_copy 24 = .ok (.aload_n 0, 1) := dk_42 (dk_at dksX0_copy_1 0 rfl rfl)
theorem dX0_copy_25 : decode cX0_copy 25 = .ok (.iload_n 3, 1) := dk_29 (dk_at dksX0_copy_1 1 rfl rfl)
theorem dX0_copy_26 : decode cX0_copy 26 = .ok (.invokevirtual 362, 3) := dk_182 1 106 (dk_at dksX0_copy_1 2 rfl rfl)
theorem dX0_copy_29 : decode cX0_copy 29 = .ok (.astore 7, 2) := dk_58 7 (dk_at dksX0_copy_1 5 rfl rfl)
theorem dX0_copy_31 : decode cX0_copy 31 = .ok (.aload 6, 2) := dk_25 6 (dk_at dksX0_copy_1 7 rfl rfl)
theorem dX0_copy_33 : decode cX0_copy 33 = .ok (.getfield 249, 3) := dk_180 0 249 (dk_at dksX0_copy_1 9 rfl rfl)
theorem dX0_copy_36 : decode cX0_copy 36 = .ok (.aload 7, 2) := dk_25 7 (dk_at dksX0_copy_1 12 rfl rfl)
theorem dX0_copy_38 : decode cX0_copy 38 = .ok (.getfield 249, 3) := dk_180 0 249 (dk_at dksX0_copy_1 14 rfl rfl)
theorem dX0_copy_41 : decode cX0_copy 41 = .ok (.if_icmp .ne 7, 3) := dk_160 0 7 (dk_at dksX0_copy_1 17 rfl rfl)
theorem dX0_copy_44 : decode cX0_copy 44 = .ok (.iconst 1, 1) := dk_4 (dk_at dksX0_copy_1 20 rfl rfl)
theorem dX0_copy_45 : decode cX0_copy 45 = .ok (.goto 4, 3) := dk_167 0 4 (dk_at dksX0_copy_1 21 rfl rfl)
theorem dX0_copy_48 : decode cX0_copy 48 = .ok (.iconst 0, 1) := dk_3 (dk_at dksX0_copy_2 0 rfl rfl)
theorem dX0_copy_49 : decode cX0_copy 49 = .ok (.bipush (-13), 2) := dk_16 243 (dk_at dksX0_copy_2 1 rfl rfl)
theorem dX0_copy_51 : decode cX0_copy 51 = .ok (.invokestatic 366, 3) := dk_184 1 110 (dk_at dksX0_copy_2 3 rfl rfl)
theorem dX0_copy_54 : decode cX0_copy 54 = .ok (.iload 5, 2) := dk_21 5 (dk_at dksX0_copy_2 6 rfl rfl)
theorem dX0_copy_56 : decode cX0_copy 56 = .ok (.ifCond .lt 41, 3) := dk_155 0 41 (dk_at dksX0_copy_2 8 rfl rfl)
theorem dX0_copy_59 : decode cX0_copy 59 = .ok (.iload_n 2, 1) := dk_28 (dk_at dksX0_copy_2 11 rfl rfl)
theorem dX0_copy_60 : decode cX0_copy 60 = .ok (.ifCond .lt 37, 3) := dk_155 0 37 (dk_at dksX0_copy_2 12 rfl rfl)
theorem dX0_copy_63 : decode cX0_copy 63 = .ok (.iload 4, 2) := dk_21 4 (dk_at dksX0_copy_2 15 rfl rfl)
theorem dX0_copy_65 : decode cX0_copy 65 = .ok (.ifCond .lt 32, 3) := dk_155 0 32 (dk_at dksX0_copy_2 17 rfl rfl)
theorem dX0_copy_68 : decode cX0_copy 68 = .ok (.iload_n 2, 1) := dk_28 (dk_at dksX0_copy_2 20 rfl rfl)
theorem dX0_copy_69 : decode cX0_copy 69 = .ok (.aload 6, 2) := dk_25 6 (dk_at dksX0_copy_2 21 rfl rfl)
theorem dX0_copy_71 : decode cX0_copy 71 = .ok (.getfield 252, 3) := dk_180 0 252 (dk_at dksX0_copy_3 0 rfl rfl)
theorem dX0_copy_74 : decode cX0_copy 74 = .ok (.iload 5, 2) := dk_21 5 (dk_at dksX0_copy_3 3 rfl rfl)
theorem dX0_copy_76 : decode cX0_copy 76 = .ok (.isub, 1) := dk_100 (dk_at dksX0_copy_3 5 rfl rfl)
theorem dX0_copy_77 : decode cX0_copy 77 = .ok (.if_icmp .gt 20, 3) := dk_163 0 20 (dk_at dksX0_copy_3 6 rfl rfl)
theorem dX0_copy_80 : decode cX0_copy 80 = .ok (.iload 4, 2) := dk_21 4 (dk_at dksX0_copy_3 9 rfl rfl)
theorem dX0_copy_82 : decode cX0_copy 82 = .ok (.aload 7, 2) := dk_25 7 (dk_at dksX0_copy_3 11 rfl rfl)
theorem dX0_copy_84 : decode cX0_copy 84 = .ok (.getfield 252, 3) := dk_180 0 252 (dk_at dksX0_copy_3 13 rfl rfl)
theorem dX0_copy_87 : decode cX0_copy 87 = .ok (.iload 5, 2) := dk_21 5 (dk_at dksX0_copy_3 16 rfl rfl)
theorem dX0_copy_89 : decode cX0_copy 89 = .ok (.isub, 1) := dk_100 (dk_at dksX0_copy_3 18 rfl rfl)
theorem dX0_copy_90 : decode cX0_copy 90 = .ok (.if_icmp .gt 7, 3) := dk_163 0 7 (dk_at dksX0_copy_3 19 rfl rfl)
theorem dX0_copy_93 : decode cX0_copy 93 = .ok (.iconst 1, 1) := dk_4 (dk_at dksX0_copy_3 22 rfl rfl)
theorem dX0_copy_94 : decode cX0_copy 94 = .ok (.goto 4, 3) := dk_167 0 4 (dk_at dksX0_copy_4 0 rfl rfl)
theorem dX0_copy_97 : decode cX0_copy 97 = .ok (.iconst 0, 1) := dk_3 (dk_at dksX0_copy_4 3 rfl rfl)
theorem dX0_copy_98 : decode cX0_copy 98 = .ok (.bipush (-12), 2) := dk_16 244 (dk_at dksX0_copy_4 4 rfl rfl)
theorem dX0_copy_100 : decode cX0_copy 100 = .ok (.invokestatic 366, 3) := dk_184 1 110 (dk_at dksX0_copy_4 6 rfl rfl)
theorem dX0_copy_103 : decode cX0_copy 103 = .ok (.aload 6, 2) := dk_25 6 (dk_at dksX0_copy_4 9 rfl rfl)
theorem dX0_copy_105 : decode cX0_copy 105 = .ok (.getfield 254, 3) := dk_180 0 254 (dk_at dksX0_copy_4 11 rfl rfl)
theorem dX0_copy_108 : decode cX0_copy 108 = .ok (.iload_n 2, 1) := dk_28 (dk_at dksX0_copy_4 14 rfl rfl)
theorem dX0_copy_109 : decode cX0_copy 109 = .ok (.aload 7, 2) := dk_25 7 (dk_at dksX0_copy_4 15 rfl rfl)
theorem dX0_copy_111 : decode cX0_copy 111 = .ok (.getfield 254, 3) := dk_180 0 254 (dk_at dksX0_copy_4 17 rfl rfl)
theorem dX0_copy_114 : decode cX0_copy 114 = .ok (.iload 4, 2) := dk_21 4 (dk_at dksX0_copy_4 20 rfl rfl)
theorem dX0_copy_116 : decode cX0_copy 116 = .ok (.iload 5, 2) := dk_21 5 (dk_at dksX0_copy_4 22 rfl rfl)
theorem dX0_copy_118 : decode cX0_copy 118 = .ok (.invokestatic 234, 3) := dk_184 0 234 (dk_at dksX0_copy_5 0 rfl rfl)
theorem dX0_copy_121 : decode cX0_copy 121 = .ok (.iload 5, 2) := dk_21 5 (dk_at dksX0_copy_5 3 rfl rfl)
theorem dX0_copy_123 : decode cX0_copy 123 = .ok (.ireturn, 1) := dk_172 (dk_at dksX0_copy_5 5 rfl rfl)
theorem dX0_copy_124 : decode cX0_copy 124 = .ok (.astore 6, 2) := dk_58 6 (dk_at dksX0_copy_5 6 rfl rfl)
theorem dX0_copy_126 : decode cX0_copy 126 = .ok (.aload 6, 2) := dk_25 6 (dk_at dksX0_copy_5 8 rfl rfl)
theorem dX0_copy_128 : decode cX0_copy 128 = .ok (.getfield 374, 3) := dk_180 1 118 (dk_at dksX0_copy_5 10 rfl rfl)
theorem dX0_copy_131 : decode cX0_copy 131 = .ok (.ireturn, 1) := dk_172 (dk_at dksX0_copy_5 13 rfl rfl)
abbrev cX0_fishersBy : ByteArray := prog_1_method_66_code
def yX0_fishersBy : MethodName := ⟨RX0, "fishersBy", "(IIII)I"⟩
def dkwX0_fishersBy_6 : List UInt8 := [132, 7, 1, 167, 255, 180, 21, 5, 172, 58, 6, 25, 6, 180, 1, 118, 172]
abbrev dktX0_fishersBy_6 : List UInt8 := dkwX0_fishersBy_6 ++ []
def dkwX0_fishersBy_5 : List UInt8 := [21, 8, 46, 25, 6, 180, 0, 254, 21, 8, 4, 96, 46, 182, 1, 121, 155, 0, 6, 132, 5, 1]
abbrev dktX0_fishersBy_5 : List UInt8 := dkwX0_fishersBy_5 ++ dktX0_fishersBy_6
def dkwX0_fishersBy_4 : List UInt8 := [167, 0, 4, 3, 16, 244, 184, 1, 110, 29, 5, 21, 7, 104, 96, 54, 8, 42, 25, 6, 180, 0, 254]
abbrev dktX0_fishersBy_4 : List UInt8 := dkwX0_fishersBy_4 ++ dktX0_fishersBy_5
def dkwX0_fishersBy_3 : List UInt8 := [162, 0, 75, 29, 155, 0, 23, 29, 25, 6, 180, 0, 252, 5, 21, 7, 104, 100, 5, 100, 163, 0, 7, 4]
abbrev dktX0_fishersBy_3 : List UInt8 := dkwX0_fishersBy_3 ++ dktX0_fishersBy_4
def dkwX0_fishersBy_2 : List UInt8 := [180, 0, 249, 28, 160, 0, 7, 4, 167, 0, 4, 3, 16, 243, 184, 1, 110, 3, 54, 7, 21, 7, 21, 4]
abbrev dktX0_fishersBy_2 : List UInt8 := dkwX0_fishersBy_2 ++ dktX0_fishersBy_3
def dkwX0_fishersBy_1 : List UInt8 := [20, 1, 50, 184, 0, 108, 154, 0, 6, 16, 254, 172, 3, 54, 5, 42, 27, 182, 1, 106, 58, 6, 25, 6]
abbrev dktX0_fishersBy_1 : List UInt8 := dkwX0_fishersBy_1 ++ dktX0_fishersBy_2
def dkwX0_fishersBy_0 : List UInt8 := [27, 184, 0, 246, 153, 0, 28, 28, 133, 9, 20, 0, 135, 184, 0, 108, 153, 0, 16, 21, 4, 133, 9]
abbrev dktX0_fishersBy_0 : List UInt8 := dkwX0_fishersBy_0 ++ dktX0_fishersBy_1
theorem dksX0_fishersBy_0 : cX0_fishersBy.data.toList.drop 0 = dktX0_fishersBy_0 := by decide +kernel
theorem dksX0_fishersBy_1 : cX0_fishersBy.data.toList.drop 23 = dktX0_fishersBy_1 := dk_seg dksX0_fishersBy_0 23 rfl rfl
theorem dksX0_fishersBy_2 : cX0_fishersBy.data.toList.drop 47 = dktX0_fishersBy_2 := dk_seg dksX0_fishersBy_1 24 rfl rfl
theorem dksX0_fishersBy_3 : cX0_fishersBy.data.toList.drop 71 = dktX0_fishersBy_3 := dk_seg dksX0_fishersBy_2 24 rfl rfl
theorem dksX0_fishersBy_4 : cX0_fishersBy.data.toList.drop 95 = dktX0_fishersBy_4 := dk_seg dksX0_fishersBy_3 24 rfl rfl
theorem dksX0_fishersBy_5 : cX0_fishersBy.data.toList.drop 118 = dktX0_fishersBy_5 := dk_seg dksX0_fishersBy_4 23 rfl rfl
theorem dksX0_fishersBy_6 : cX0_fishersBy.data.toList.drop 140 = dktX0_fishersBy_6 := dk_seg dksX0_fishersBy_5 22 rfl rfl
theorem dX0_fishersBy_0 : decode cX0_fishersBy 0 = .ok (.iload_n 1, 1) := dk_27 (dk_at dksX0_fishersBy_0 0 rfl rfl)
theorem dX0_fishersBy_1 : decode cX0_fishersBy 1 = .ok (.invokestatic 246, 3) := dk_184 0 246 (dk_at dksX0_fishersBy_0 1 rfl rfl)
theorem dX0_fishersBy_4 : decode cX0_fishersBy 4 = .ok (.ifCond .eq 28, 3) := dk_153 0 28 (dk_at dksX0_fishersBy_0 4 rfl rfl)
theorem dX0_fishersBy_7 : decode cX0_fishersBy 7 = .ok (.iload_n 2, 1) := dk_28 (dk_at dksX0_fishersBy_0 7 rfl rfl)
theorem dX0_fishersBy_8 : decode cX0_fishersBy 8 = .ok (.i2l, 1) := dk_133 (dk_at dksX0_fishersBy_0 8 rfl rfl)
theorem dX0_fishersBy_9 : decode cX0_fishersBy 9 = .ok (.lconst 0, 1) := dk_9 (dk_at dksX0_fishersBy_0 9 rfl rfl)
theorem dX0_fishersBy_10 : decode cX0_fishersBy 10 = .ok (.ldc2_w 135, 3) := dk_20 0 135 (dk_at dksX0_fishersBy_0 10 rfl rfl)
theorem dX0_fishersBy_13 : decode cX0_fishersBy 13 = .ok (.invokestatic 108, 3) := dk_184 0 108 (dk_at dksX0_fishersBy_0 13 rfl rfl)
theorem dX0_fishersBy_16 : decode cX0_fishersBy 16 = .ok (.ifCond .eq 16, 3) := dk_153 0 16 (dk_at dksX0_fishersBy_0 16 rfl rfl)
theorem dX0_fishersBy_19 : decode cX0_fishersBy 19 = .ok (.iload 4, 2) := dk_21 4 (dk_at dksX0_fishersBy_0 19 rfl rfl)
theorem dX0_fishersBy_21 : decode cX0_fishersBy 21 = .ok (.i2l, 1) := dk_133 (dk_at dksX0_fishersBy_0 21 rfl rfl)
theorem dX0_fishersBy_22 : decode cX0_fishersBy 22 = .ok (.lconst 0, 1) := dk_9 (dk_at dksX0_fishersBy_0 22 rfl rfl)
theorem dX0_fishersBy_23 : decode cX0_fishersBy 23 = .ok (.ldc2_w 306, 3) := dk_20 1 50 (dk_at dksX0_fishersBy_1 0 rfl rfl)
theorem dX0_fishersBy_26 : decode cX0_fishersBy 26 = .ok (.invokestatic 108, 3) := dk_184 0 108 (dk_at dksX0_fishersBy_1 3 rfl rfl)
theorem dX0_fishersBy_29 : decode cX0_fishersBy 29 = .ok (.ifCond .ne 6, 3) := dk_154 0 6 (dk_at dksX0_fishersBy_1 6 rfl rfl)
theorem dX0_fishersBy_32 : decode cX0_fishersBy 32 = .ok (.bipush (-2), 2) := dk_16 254 (dk_at dksX0_fishersBy_1 9 rfl rfl)
theorem dX0_fishersBy_34 : decode cX0_fishersBy 34 = .ok (.ireturn, 1) := dk_172 (dk_at dksX0_fishersBy_1 11 rfl rfl)
theorem dX0_fishersBy_35 : decode cX0_fishersBy 35 = .ok (.iconst 0, 1) := dk_3 (dk_at dksX0_fishersBy_1 12 rfl rfl)
theorem dX0_fishersBy_36 : decode cX0_fishersBy 36 = .ok (.istore 5, 2) := dk_54 5 (dk_at dksX0_fishersBy_1 13 rfl rfl)
theorem dX0_fishersBy_38 : decode cX0_fishersBy 38 = .ok (.aload_n 0, 1) := dk_42 (dk_at dksX0_fishersBy_1 15 rfl rfl)
theorem dX0_fishersBy_39 : decode cX0_fishersBy 39 = .ok (.iload_n 1, 1) := dk_27 (dk_at dksX0_fishersBy_1 16 rfl rfl)
theorem dX0_fishersBy_40 : decode cX0_fishersBy 40 = .ok (.invokevirtual 362, 3) := dk_182 1 106 (dk_at dksX0_fishersBy_1 17 rfl rfl)
theorem dX0_fishersBy_43 : decode cX0_fishersBy 43 = .ok (.astore 6, 2) := dk_58 6 (dk_at dksX0_fishersBy_1 20 rfl rfl)
theorem dX0_fishersBy_45 : decode cX0_fishersBy 45 = .ok (.aload 6, 2) := dk_25 6 (dk_at dksX0_fishersBy_1 22 rfl rfl)
theorem dX0_fishersBy_47 : decode cX0_fishersBy 47 = .ok (.getfield 249, 3) := dk_180 0 249 (dk_at dksX0_fishersBy_2 0 rfl rfl)
theorem dX0_fishersBy_50 : decode cX0_fishersBy 50 = .ok (.iload_n 2, 1) := dk_28 (dk_at dksX0_fishersBy_2 3 rfl rfl)
theorem dX0_fishersBy_51 : decode cX0_fishersBy 51 = .ok (.if_icmp .ne 7, 3) := dk_160 0 7 (dk_at dksX0_fishersBy_2 4 rfl rfl)
theorem dX0_fishersBy_54 : decode cX0_fishersBy 54 = .ok (.iconst 1, 1) := dk_4 (dk_at dksX0_fishersBy_2 7 rfl rfl)
theorem dX0_fishersBy_55 : decode cX0_fishersBy 55 = .ok (.goto 4, 3) := dk_167 0 4 (dk_at dksX0_fishersBy_2 8 rfl rfl)
theorem dX0_fishersBy_58 : decode cX0_fishersBy 58 = .ok (.iconst 0, 1) := dk_3 (dk_at dksX0_fishersBy_2 11 rfl rfl)
theorem dX0_fishersBy_59 : decode cX0_fishersBy 59 = .ok (.bipush (-13), 2) := dk_16 243 (dk_at dksX0_fishersBy_2 12 rfl rfl)
theorem dX0_fishersBy_61 : decode cX0_fishersBy 61 = .ok (.invokestatic 366, 3) := dk_184 1 110 (dk_at dksX0_fishersBy_2 14 rfl rfl)
theorem dX0_fishersBy_64 : decode cX0_fishersBy 64 = .ok (.iconst 0, 1) := dk_3 (dk_at dksX0_fishersBy_2 17 rfl rfl)
theorem dX0_fishersBy_65 : decode cX0_fishersBy 65 = .ok (.istore 7, 2) := dk_54 7 (dk_at dksX0_fishersBy_2 18 rfl rfl)
theorem dX0_fishersBy_67 : decode cX0_fishersBy 67 = .ok (.iload 7, 2) := dk_21 7 (dk_at dksX0_fishersBy_2 20 rfl rfl)
theorem dX0_fishersBy_69 : decode cX0_fishersBy 69 = .ok (.iload 4, 2) := dk_21 4 (dk_at dksX0_fishersBy_2 22 rfl rfl)
theorem dX0_fishersBy_71 : decode cX0_fishersBy 71 = .ok (.if_icmp .ge 75, 3) := dk_162 0 75 (dk_at dksX0_fishersBy_3 0 rfl rfl)
theorem dX0_fishersBy_74 : decode cX0_fishersBy 74 = .ok (.iload_n 3, 1) := dk_29 (dk_at dksX0_fishersBy_3 3 rfl rfl)
theorem dX0_fishersBy_75 : decode cX0_fishersBy 75 = .ok (.ifCond .lt 23, 3) := dk_155 0 23 (dk_at dksX0_fishersBy_3 4 rfl rfl)
theorem dX0_fishersBy_78 : decode cX0_fishersBy 78 = .ok (.iload_n 3, 1) := dk_29 (dk_at dksX0_fishersBy_3 7 rfl rfl)
theorem dX0_fishersBy_79 : decode cX0_fishersBy 79 = .ok (.aload 6, 2) := dk_25 6 (dk_at dksX0_fishersBy_3 8 rfl rfl)
theorem dX0_fishersBy_81 : decode cX0_fishersBy 81 = .ok (.getfield 252, 3) := dk_180 0 252 (dk_at dksX0_fishersBy_3 10 rfl rfl)
theorem dX0_fishersBy_84 : decode cX0_fishersBy 84 = .ok (.iconst 2, 1) := dk_5 (dk_at dksX0_fishersBy_3 13 rfl rfl)
theorem dX0_fishersBy_85 : decode cX0_fishersBy 85 = .ok (.iload 7, 2) := dk_21 7 (dk_at dksX0_fishersBy_3 14 rfl rfl)
theorem dX0_fishersBy_87 : decode cX0_fishersBy 87 = .ok (.imul, 1) := dk_104 (dk_at dksX0_fishersBy_3 16 rfl rfl)
theorem dX0_fishersBy_88 : decode cX0_fishersBy 88 = .ok (.isub, 1) := dk_100 (dk_at dksX0_fishersBy_3 17 rfl rfl)
theorem dX0_fishersBy_89 : decode cX0_fishersBy 89 = .ok (.iconst 2, 1) := dk_5 (dk_at dksX0_fishersBy_3 18 rfl rfl)
theorem dX0_fishersBy_90 : decode cX0_fishersBy 90 = .ok (.isub, 1) := dk_100 (dk_at dksX0_fishersBy_3 19 rfl rfl)
theorem dX0_fishersBy_91 : decode cX0_fishersBy 91 = .ok (.if_icmp .gt 7, 3) := dk_163 0 7 (dk_at dksX0_fishersBy_3 20 rfl rfl)
theorem dX0_fishersBy_94 : decode cX0_fishersBy 94 = .ok (.iconst 1, 1) := dk_4 (dk_at dksX0_fishersBy_3 23 rfl rfl)
theorem dX0_fishersBy_95 : decode cX0_fishersBy 95 = .ok (.goto 4, 3) := dk_167 0 4 (dk_at dksX0_fishersBy_4 0 rfl rfl)
theorem dX0_fishersBy_98 : decode cX0_fishersBy 98 = .ok (.iconst 0, 1) := dk_3 (dk_at dksX0_fishersBy_4 3 rfl rfl)
theorem dX0_fishersBy_99 : decode cX0_fishersBy 99 = .ok (.bipush (-12), 2) := dk_16 244 (dk_at dksX0_fishersBy_4 4 rfl rfl)
theorem dX0_fishersBy_101 : decode cX0_fishersBy 101 = .ok (.invokestatic 366, 3) := dk_184 1 110 (dk_at dksX0_fishersBy_4 6 rfl rfl)
theorem dX0_fishersBy_104 : decode cX0_fishersBy 104 = .ok (.iload_n 3, 1) := dk_29 (dk_at dksX0_fishersBy_4 9 rfl rfl)
theorem dX0_fishersBy_105 : decode cX0_fishersBy 105 = .ok (.iconst 2, 1) := dk_5 (dk_at dksX0_fishersBy_4 10 rfl rfl)
theorem dX0_fishersBy_106 : decode cX0_fishersBy 106 = .ok (.iload 7, 2) := dk_21 7 (dk_at dksX0_fishersBy_4 11 rfl rfl)
theorem dX0_fishersBy_108 : decode cX0_fishersBy 108 = .ok (.imul, 1) := dk_104 (dk_at dksX0_fishersBy_4 13 rfl rfl)
theorem dX0_fishersBy_109 : decode cX0_fishersBy 109 = .ok (.iadd, 1) := dk_96 (dk_at dksX0_fishersBy_4 14 rfl rfl)
theorem dX0_fishersBy_110 : decode cX0_fishersBy 110 = .ok (.istore 8, 2) := dk_54 8 (dk_at dksX0_fishersBy_4 15 rfl rfl)
theorem dX0_fishersBy_112 : decode cX0_fishersBy 112 = .ok (.aload_n 0, 1) := dk_42 (dk_at dksX0_fishersBy_4 17 rfl rfl)
theorem dX0_fishersBy_113 : decode cX0_fishersBy 113 = .ok (.aload 6, 2) := dk_25 6 (dk_at dksX0_fishersBy_4 18 rfl rfl)
theorem dX0_fishersBy_115 : decode cX0_fishersBy 115 = .ok (.getfield 254, 3) := dk_180 0 254 (dk_at dksX0_fishersBy_4 20 rfl rfl)
theorem dX0_fishersBy_118 : decode cX0_fishersBy 118 = .ok (.iload 8, 2) := dk_21 8 (dk_at dksX0_fishersBy_5 0 rfl rfl)
theorem dX0_fishersBy_120 : decode cX0_fishersBy 120 = .ok (.iaload, 1) := dk_46 (dk_at dksX0_fishersBy_5 2 rfl rfl)
theorem dX0_fishersBy_121 : decode cX0_fishersBy 121 = .ok (.aload 6, 2) := dk_25 6 (dk_at dksX0_fishersBy_5 3 rfl rfl)
theorem dX0_fishersBy_123 : decode cX0_fishersBy 123 = .ok (.getfield 254, 3) := dk_180 0 254 (dk_at dksX0_fishersBy_5 5 rfl rfl)
theorem dX0_fishersBy_126 : decode cX0_fishersBy 126 = .ok (.iload 8, 2) := dk_21 8 (dk_at dksX0_fishersBy_5 8 rfl rfl)
theorem dX0_fishersBy_128 : decode cX0_fishersBy 128 = .ok (.iconst 1, 1) := dk_4 (dk_at dksX0_fishersBy_5 10 rfl rfl)
theorem dX0_fishersBy_129 : decode cX0_fishersBy 129 = .ok (.iadd, 1) := dk_96 (dk_at dksX0_fishersBy_5 11 rfl rfl)
theorem dX0_fishersBy_130 : decode cX0_fishersBy 130 = .ok (.iaload, 1) := dk_46 (dk_at dksX0_fishersBy_5 12 rfl rfl)
theorem dX0_fishersBy_131 : decode cX0_fishersBy 131 = .ok (.invokevirtual 377, 3) := dk_182 1 121 (dk_at dksX0_fishersBy_5 13 rfl rfl)
theorem dX0_fishersBy_134 : decode cX0_fishersBy 134 = .ok (.ifCond .lt 6, 3) := dk_155 0 6 (dk_at dksX0_fishersBy_5 16 rfl rfl)
theorem dX0_fishersBy_137 : decode cX0_fishersBy 137 = .ok (.iinc 5 1, 3) := dk_132 5 1 (dk_at dksX0_fishersBy_5 19 rfl rfl)
theorem dX0_fishersBy_140 : decode cX0_fishersBy 140 = .ok (.iinc 7 1, 3) := dk_132 7 1 (dk_at dksX0_fishersBy_6 0 rfl rfl)
theorem dX0_fishersBy_143 : decode cX0_fishersBy 143 = .ok (.goto (-76), 3) := dk_167 255 180 (dk_at dksX0_fishersBy_6 3 rfl rfl)
theorem dX0_fishersBy_146 : decode cX0_fishersBy 146 = .ok (.iload 5, 2) := dk_21 5 (dk_at dksX0_fishersBy_6 6 rfl rfl)
theorem dX0_fishersBy_148 : decode cX0_fishersBy 148 = .ok (.ireturn, 1) := dk_172 (dk_at dksX0_fishersBy_6 8 rfl rfl)
theorem dX0_fishersBy_149 : decode cX0_fishersBy 149 = .ok (.astore 6, 2) := dk_58 6 (dk_at dksX0_fishersBy_6 9 rfl rfl)
theorem dX0_fishersBy_151 : decode cX0_fishersBy 151 = .ok (.aload 6, 2) := dk_25 6 (dk_at dksX0_fishersBy_6 11 rfl rfl)
theorem dX0_fishersBy_153 : decode cX0_fishersBy 153 = .ok (.getfield 374, 3) := dk_180 1 118 (dk_at dksX0_fishersBy_6 13 rfl rfl)
theorem dX0_fishersBy_156 : decode cX0_fishersBy 156 = .ok (.ireturn, 1) := dk_172 (dk_at dksX0_fishersBy_6 16 rfl rfl)
abbrev cX0_taken : ByteArray := prog_1_method_67_code
def yX0_taken : MethodName := ⟨RX0, "taken", "(II)I"⟩
def dkwX0_taken_5 : List UInt8 := [180, 1, 118, 172]
abbrev dktX0_taken_5 : List UInt8 := dkwX0_taken_5 ++ []
def dkwX0_taken_4 : List UInt8 := [182, 1, 141, 58, 4, 25, 4, 28, 184, 1, 144, 16, 243, 184, 1, 110, 25, 4, 180, 1, 148, 172, 78, 45]
abbrev dktX0_taken_4 : List UInt8 := dkwX0_taken_4 ++ dktX0_taken_5
def dkwX0_taken_3 : List UInt8 := [46, 184, 1, 128, 183, 1, 132, 78, 28, 16, 6, 160, 0, 11, 45, 182, 1, 135, 182, 1, 138, 172, 45]
abbrev dktX0_taken_3 : List UInt8 := dkwX0_taken_3 ++ dktX0_taken_4
def dkwX0_taken_2 : List UInt8 := [16, 6, 162, 0, 14, 42, 180, 0, 25, 27, 182, 0, 116, 167, 0, 15, 42, 180, 0, 29, 27, 16, 6, 100]
abbrev dktX0_taken_2 : List UInt8 := dkwX0_taken_2 ++ dktX0_taken_3
def dkwX0_taken_1 : List UInt8 := [16, 244, 184, 1, 110, 42, 27, 16, 6, 112, 182, 0, 137, 16, 245, 184, 1, 110, 187, 1, 126, 89, 27]
abbrev dktX0_taken_1 : List UInt8 := dkwX0_taken_1 ++ dktX0_taken_2
def dkwX0_taken_0 : List UInt8 := [28, 133, 9, 20, 1, 50, 184, 0, 108, 154, 0, 6, 16, 254, 172, 27, 133, 9, 20, 1, 124, 184, 0, 108]
abbrev dktX0_taken_0 : List UInt8 := dkwX0_taken_0 ++ dktX0_taken_1
theorem dksX0_taken_0 : cX0_taken.data.toList.drop 0 = dktX0_taken_0 := by decide +kernel
theorem dksX0_taken_1 : cX0_taken.data.toList.drop 24 = dktX0_taken_1 := dk_seg dksX0_taken_0 24 rfl rfl
theorem dksX0_taken_2 : cX0_taken.data.toList.drop 47 = dktX0_taken_2 := dk_seg dksX0_taken_1 23 rfl rfl
theorem dksX0_taken_3 : cX0_taken.data.toList.drop 71 = dktX0_taken_3 := dk_seg dksX0_taken_2 24 rfl rfl
theorem dksX0_taken_4 : cX0_taken.data.toList.drop 94 = dktX0_taken_4 := dk_seg dksX0_taken_3 23 rfl rfl
theorem dksX0_taken_5 : cX0_taken.data.toList.drop 118 = dktX0_taken_5 := dk_seg dksX0_taken_4 24 rfl rfl
theorem dX0_taken_0 : decode cX0_taken 0 = .ok (.iload_n 2, 1) := dk_28 (dk_at dksX0_taken_0 0 rfl rfl)
theorem dX0_taken_1 : decode cX0_taken 1 = .ok (.i2l, 1) := dk_133 (dk_at dksX0_taken_0 1 rfl rfl)
theorem dX0_taken_2 : decode cX0_taken 2 = .ok (.lconst 0, 1) := dk_9 (dk_at dksX0_taken_0 2 rfl rfl)
theorem dX0_taken_3 : decode cX0_taken 3 = .ok (.ldc2_w 306, 3) := dk_20 1 50 (dk_at dksX0_taken_0 3 rfl rfl)
theorem dX0_taken_6 : decode cX0_taken 6 = .ok (.invokestatic 108, 3) := dk_184 0 108 (dk_at dksX0_taken_0 6 rfl rfl)
theorem dX0_taken_9 : decode cX0_taken 9 = .ok (.ifCond .ne 6, 3) := dk_154 0 6 (dk_at dksX0_taken_0 9 rfl rfl)
theorem dX0_taken_12 : decode cX0_taken 12 = .ok (.bipush (-2), 2) := dk_16 254 (dk_at dksX0_taken_0 12 rfl rfl)
theorem dX0_taken_14 : decode cX0_taken 14 = .ok (.ireturn, 1) := dk_172 (dk_at dksX0_taken_0 14 rfl rfl)
theorem dX0_taken_15 : decode cX0_taken 15 = .ok (.iload_n 1, 1) := dk_27 (dk_at dksX0_taken_0 15 rfl rfl)
theorem dX0_taken_16 : decode cX0_taken 16 = .ok (.i2l, 1) := dk_133 (dk_at dksX0_taken_0 16 rfl rfl)
theorem dX0_taken_17 : decode cX0_taken 17 = .ok (.lconst 0, 1) := dk_9 (dk_at dksX0_taken_0 17 rfl rfl)
theorem dX0_taken_18 : decode cX0_taken 18 = .ok (.ldc2_w 380, 3) := dk_20 1 124 (dk_at dksX0_taken_0 18 rfl rfl)
theorem dX0_taken_21 : decode cX0_taken 21 = .ok (.invokestatic 108, 3) := dk_184 0 108 (dk_at dksX0_taken_0 21 rfl rfl)
theorem dX0_taken_24 : decode cX0_taken 24 = .ok (.bipush (-12), 2) := dk_16 244 (dk_at dksX0_taken_1 0 rfl rfl)
theorem dX0_taken_26 : decode cX0_taken 26 = .ok (.invokestatic 366, 3) := dk_184 1 110 (dk_at dksX0_taken_1 2 rfl rfl)
theorem dX0_taken_29 : decode cX0_taken 29 = .ok (.aload_n 0, 1) := dk_42 (dk_at dksX0_taken_1 5 rfl rfl)
theorem dX0_taken_30 : decode cX0_taken 30 = .ok (.iload_n 1, 1) := dk_27 (dk_at dksX0_taken_1 6 rfl rfl)
theorem dX0_taken_31 : decode cX0_taken 31 = .ok (.bipush 6, 2) := dk_16 6 (dk_at dksX0_taken_1 7 rfl rfl)
theorem dX0_taken_33 : decode cX0_taken 33 = .ok (.irem, 1) := dk_112 (dk_at dksX0_taken_1 9 rfl rfl)
theorem dX0_taken_34 : decode cX0_taken 34 = .ok (.invokevirtual 137, 3) := dk_182 0 137 (dk_at dksX0_taken_1 10 rfl rfl)
theorem dX0_taken_37 : decode cX0_taken 37 = .ok (.bipush (-11), 2) := dk_16 245 (dk_at dksX0_taken_1 13 rfl rfl)
theorem dX0_taken_39 : decode cX0_taken 39 = .ok (.invokestatic 366, 3) := dk_184 1 110 (dk_at dksX0_taken_1 15 rfl rfl)
theorem dX0_taken_42 : decode cX0_taken 42 = .ok (.new 382, 3) := dk_187 1 126 (dk_at dksX0_taken_1 18 rfl rfl)
theorem dX0_taken_45 : decode cX0_taken 45 = .ok (.dup, 1) := dk_89 (dk_at dksX0_taken_1 21 rfl rfl)
theorem dX0_taken_46 : decode cX0_taken 46 = .ok (.iload_n 1, 1) := dk_27 (dk_at dksX0_taken_1 22 rfl rfl)
theorem dX0_taken_47 : decode cX0_taken 47 = .ok (.bipush 6, 2) := dk_16 6 (dk_at dksX0_taken_2 0 rfl rfl)
theorem dX0_taken_49 : decode cX0_taken 49 = .ok (.if_icmp .ge 14, 3) := dk_162 0 14 (dk_at dksX0_taken_2 2 rfl rfl)
theorem dX0_taken_52 : decode cX0_taken 52 = .ok (.aload_n 0, 1) := dk_42 (dk_at dksX0_taken_2 5 rfl rfl)
theorem dX0_taken_53 : decode cX0_taken 53 = .ok (.getfield 25, 3) := dk_180 0 25 (dk_at dksX0_taken_2 6 rfl rfl)
theorem dX0_taken_56 : decode cX0_taken 56 = .ok (.iload_n 1, 1) := dk_27 (dk_at dksX0_taken_2 9 rfl rfl)
theorem dX0_taken_57 : decode cX0_taken 57 = .ok (.invokevirtual 116, 3) := dk_182 0 116 (dk_at dksX0_taken_2 10 rfl rfl)
theorem dX0_taken_60 : decode cX0_taken 60 = .ok (.goto 15, 3) := dk_167 0 15 (dk_at dksX0_taken_2 13 rfl rfl)
theorem dX0_taken_63 : decode cX0_taken 63 = .ok (.aload_n 0, 1) := dk_42 (dk_at dksX0_taken_2 16 rfl rfl)
theorem dX0_taken_64 : decode cX0_taken 64 = .ok (.getfield 29, 3) := dk_180 0 29 (dk_at dksX0_taken_2 17 rfl rfl)
theorem dX0_taken_67 : decode cX0_taken 67 = .ok (.iload_n 1, 1) := dk_27 (dk_at dksX0_taken_2 20 rfl rfl)
theorem dX0_taken_68 : decode cX0_taken 68 = .ok (.bipush 6, 2) := dk_16 6 (dk_at dksX0_taken_2 21 rfl rfl)
theorem dX0_taken_70 : decode cX0_taken 70 = .ok (.isub, 1) := dk_100 (dk_at dksX0_taken_2 23 rfl rfl)
theorem dX0_taken_71 : decode cX0_taken 71 = .ok (.iaload, 1) := dk_46 (dk_at dksX0_taken_3 0 rfl rfl)
theorem dX0_taken_72 : decode cX0_taken 72 = .ok (.invokestatic 384, 3) := dk_184 1 128 (dk_at dksX0_taken_3 1 rfl rfl)
theorem dX0_taken_75 : decode cX0_taken 75 = .ok (.invokespecial 388, 3) := dk_183 1 132 (dk_at dksX0_taken_3 4 rfl rfl)
theorem dX0_taken_78 : decode cX0_taken 78 = .ok (.astore_n 3, 1) := dk_78 (dk_at dksX0_taken_3 7 rfl rfl)
theorem dX0_taken_79 : decode cX0_taken 79 = .ok (.iload_n 2, 1) := dk_28 (dk_at dksX0_taken_3 8 rfl rfl)
theorem dX0_taken_80 : decode cX0_taken 80 = .ok (.bipush 6, 2) := dk_16 6 (dk_at dksX0_taken_3 9 rfl rfl)
theorem dX0_taken_82 : decode cX0_taken 82 = .ok (.if_icmp .ne 11, 3) := dk_160 0 11 (dk_at dksX0_taken_3 11 rfl rfl)
theorem dX0_taken_85 : decode cX0_taken 85 = .ok (.aload_n 3, 1) := dk_45 (dk_at dksX0_taken_3 14 rfl rfl)
theorem dX0_taken_86 : decode cX0_taken 86 = .ok (.invokevirtual 391, 3) := dk_182 1 135 (dk_at dksX0_taken_3 15 rfl rfl)
theorem dX0_taken_89 : decode cX0_taken 89 = .ok (.invokevirtual 394, 3) := dk_182 1 138 (dk_at dksX0_taken_3 18 rfl rfl)
theorem dX0_taken_92 : decode cX0_taken 92 = .ok (.ireturn, 1) := dk_172 (dk_at dksX0_taken_3 21 rfl rfl)
theorem dX0_taken_93 : decode cX0_taken 93 = .ok (.aload_n 3, 1) := dk_45 (dk_at dksX0_taken_3 22 rfl rfl)
theorem dX0_taken_94 : decode cX0_taken 94 = .ok (.invokevirtual 397, 3) := dk_182 1 141 (dk_at dksX0_taken_4 0 rfl rfl)
theorem dX0_taken_97 : decode cX0_taken 97 = .ok (.astore 4, 2) := dk_58 4 (dk_at dksX0_taken_4 3 rfl rfl)
theorem dX0_taken_99 : decode cX0_taken 99 = .ok (.aload 4, 2) := dk_25 4 (dk_at dksX0_taken_4 5 rfl rfl)
theorem dX0_taken_101 : decode cX0_taken 101 = .ok (.iload_n 2, 1) := dk_28 (dk_at dksX0_taken_4 7 rfl rfl)
theorem dX0_taken_102 : decode cX0_taken 102 = .ok (.invokestatic 400, 3) := dk_184 1 144 (dk_at dksX0_taken_4 8 rfl rfl)
theorem dX0_taken_105 : decode cX0_taken 105 = .ok (.bipush (-13), 2) := dk_16 243 (dk_at dksX0_taken_4 11 rfl rfl)
theorem dX0_taken_107 : decode cX0_taken 107 = .ok (.invokestatic 366, 3) := dk_184 1 110 (dk_at dksX0_taken_4 13 rfl rfl)
theorem dX0_taken_110 : decode cX0_taken 110 = .ok (.aload 4, 2) := dk_25 4 (dk_at dksX0_taken_4 16 rfl rfl)
theorem dX0_taken_112 : decode cX0_taken 112 = .ok (.getfield 404, 3) := dk_180 1 148 (dk_at dksX0_taken_4 18 rfl rfl)
theorem dX0_taken_115 : decode cX0_taken 115 = .ok (.ireturn, 1) := dk_172 (dk_at dksX0_taken_4 21 rfl rfl)
theorem dX0_taken_116 : decode cX0_taken 116 = .ok (.astore_n 3, 1) := dk_78 (dk_at dksX0_taken_4 22 rfl rfl)
theorem dX0_taken_117 : decode cX0_taken 117 = .ok (.aload_n 3, 1) := dk_45 (dk_at dksX0_taken_4 23 rfl rfl)
theorem dX0_taken_118 : decode cX0_taken 118 = .ok (.getfield 374, 3) := dk_180 1 118 (dk_at dksX0_taken_5 0 rfl rfl)
theorem dX0_taken_121 : decode cX0_taken 121 = .ok (.ireturn, 1) := dk_172 (dk_at dksX0_taken_5 3 rfl rfl)
abbrev cX0_isUnder : ByteArray := prog_1_method_9_code
def yX0_isUnder : MethodName := ⟨RX0, "isUnder", "(LNameThrownBack$Fisher;I)Z"⟩
def dkwX0_isUnder_3 : List UInt8 := [193, 0, 162, 172]
abbrev dktX0_isUnder_3 : List UInt8 := dkwX0_isUnder_3 ++ []
def dkwX0_isUnder_2 : List UInt8 := [4, 172, 42, 193, 0, 150, 172, 42, 193, 0, 153, 172, 42, 193, 0, 156, 172, 42, 193, 0, 159, 172, 42]
abbrev dktX0_isUnder_2 : List UInt8 := dkwX0_isUnder_2 ++ dktX0_isUnder_3
def dkwX0_isUnder_1 : List UInt8 := [170, 0, 0, 0, 0, 0, 57, 0, 0, 0, 0, 0, 0, 0, 4, 0, 0, 0, 35, 0, 0, 0, 37, 0, 0, 0, 42, 0, 0, 0, 47, 0, 0, 0, 52]
abbrev dktX0_isUnder_1 : List UInt8 := dkwX0_isUnder_1 ++ dktX0_isUnder_2
def dkwX0_isUnder_0 : List UInt8 := [27]
abbrev dktX0_isUnder_0 : List UInt8 := dkwX0_isUnder_0 ++ dktX0_isUnder_1
theorem dksX0_isUnder_0 : cX0_isUnder.data.toList.drop 0 = dktX0_isUnder_0 := by decide +kernel
theorem dksX0_isUnder_1 : cX0_isUnder.data.toList.drop 1 = dktX0_isUnder_1 := dk_seg dksX0_isUnder_0 1 rfl rfl
theorem dksX0_isUnder_2 : cX0_isUnder.data.toList.drop 36 = dktX0_isUnder_2 := dk_seg dksX0_isUnder_1 35 rfl rfl
theorem dksX0_isUnder_3 : cX0_isUnder.data.toList.drop 59 = dktX0_isUnder_3 := dk_seg dksX0_isUnder_2 23 rfl rfl
theorem dX0_isUnder_0 : decode cX0_isUnder 0 = .ok (.iload_n 1, 1) := dk_27 (dk_at dksX0_isUnder_0 0 rfl rfl)
theorem dX0_isUnder_1 : decode cX0_isUnder 1 = .ok (.tableswitch 57 0 4 #[35, 37, 42, 47, 52], 35) := by decide +kernel
theorem dX0_isUnder_36 : decode cX0_isUnder 36 = .ok (.iconst 1, 1) := dk_4 (dk_at dksX0_isUnder_2 0 rfl rfl)
theorem dX0_isUnder_37 : decode cX0_isUnder 37 = .ok (.ireturn, 1) := dk_172 (dk_at dksX0_isUnder_2 1 rfl rfl)
theorem dX0_isUnder_38 : decode cX0_isUnder 38 = .ok (.aload_n 0, 1) := dk_42 (dk_at dksX0_isUnder_2 2 rfl rfl)
theorem dX0_isUnder_39 : decode cX0_isUnder 39 = .ok (.instanceof 150, 3) := dk_193 0 150 (dk_at dksX0_isUnder_2 3 rfl rfl)
theorem dX0_isUnder_42 : decode cX0_isUnder 42 = .ok (.ireturn, 1) := dk_172 (dk_at dksX0_isUnder_2 6 rfl rfl)
theorem dX0_isUnder_43 : decode cX0_isUnder 43 = .ok (.aload_n 0, 1) := dk_42 (dk_at dksX0_isUnder_2 7 rfl rfl)
theorem dX0_isUnder_44 : decode cX0_isUnder 44 = .ok (.instanceof 153, 3) := dk_193 0 153 (dk_at dksX0_isUnder_2 8 rfl rfl)
theorem dX0_isUnder_47 : decode cX0_isUnder 47 = .ok (.ireturn, 1) := dk_172 (dk_at dksX0_isUnder_2 11 rfl rfl)
theorem dX0_isUnder_48 : decode cX0_isUnder 48 = .ok (.aload_n 0, 1) := dk_42 (dk_at dksX0_isUnder_2 12 rfl rfl)
theorem dX0_isUnder_49 : decode cX0_isUnder 49 = .ok (.instanceof 156, 3) := dk_193 0 156 (dk_at dksX0_isUnder_2 13 rfl rfl)
theorem dX0_isUnder_52 : decode cX0_isUnder 52 = .ok (.ireturn, 1) := dk_172 (dk_at dksX0_isUnder_2 16 rfl rfl)
theorem dX0_isUnder_53 : decode cX0_isUnder 53 = .ok (.aload_n 0, 1) := dk_42 (dk_at dksX0_isUnder_2 17 rfl rfl)
theorem dX0_isUnder_54 : decode cX0_isUnder 54 = .ok (.instanceof 159, 3) := dk_193 0 159 (dk_at dksX0_isUnder_2 18 rfl rfl)
theorem dX0_isUnder_57 : decode cX0_isUnder 57 = .ok (.ireturn, 1) := dk_172 (dk_at dksX0_isUnder_2 21 rfl rfl)
theorem dX0_isUnder_58 : decode cX0_isUnder 58 = .ok (.aload_n 0, 1) := dk_42 (dk_at dksX0_isUnder_2 22 rfl rfl)
theorem dX0_isUnder_59 : decode cX0_isUnder 59 = .ok (.instanceof 162, 3) := dk_193 0 162 (dk_at dksX0_isUnder_3 0 rfl rfl)
theorem dX0_isUnder_62 : decode cX0_isUnder 62 = .ok (.ireturn, 1) := dk_172 (dk_at dksX0_isUnder_3 3 rfl rfl)

