set_option maxRecDepth 100000
abbrev cX7_init : ByteArray := prog_19_method_1_code
def yX7_init : MethodName := ⟨RX7, "<init>", "()V"⟩
def dkwX7_init_39 : List UInt8 := [27, 46, 79, 132, 1, 1, 167, 255, 235, 42, 16, 32, 181, 0, 61, 42, 182, 0, 65, 87, 177]
abbrev dktX7_init_39 : List UInt8 := dkwX7_init_39 ++ []
def dkwX7_init_38 : List UInt8 := [16, 20, 188, 10, 181, 0, 58, 3, 60, 27, 16, 32, 162, 0, 21, 42, 180, 0, 19, 27, 42, 180, 0, 43]
abbrev dktX7_init_38 : List UInt8 := dkwX7_init_38 ++ dktX7_init_39
def dkwX7_init_37 : List UInt8 := [188, 10, 181, 0, 49, 42, 17, 0, 200, 188, 10, 181, 0, 52, 42, 16, 6, 188, 10, 181, 0, 55, 42]
abbrev dktX7_init_37 : List UInt8 := dkwX7_init_37 ++ dktX7_init_38
def dkwX7_init_36 : List UInt8 := [16, 93, 16, 32, 79, 89, 16, 94, 16, 32, 79, 89, 16, 95, 16, 32, 79, 181, 0, 46, 42, 17, 0, 200]
abbrev dktX7_init_36 : List UInt8 := dkwX7_init_36 ++ dktX7_init_37
def dkwX7_init_35 : List UInt8 := [16, 89, 16, 111, 79, 89, 16, 90, 16, 116, 79, 89, 16, 91, 16, 32, 79, 89, 16, 92, 16, 32, 79, 89]
abbrev dktX7_init_35 : List UInt8 := dkwX7_init_35 ++ dktX7_init_36
def dkwX7_init_34 : List UInt8 := [16, 85, 16, 32, 79, 89, 16, 86, 16, 32, 79, 89, 16, 87, 16, 32, 79, 89, 16, 88, 16, 110, 79, 89]
abbrev dktX7_init_34 : List UInt8 := dkwX7_init_34 ++ dktX7_init_35
def dkwX7_init_33 : List UInt8 := [16, 81, 16, 110, 79, 89, 16, 82, 16, 100, 79, 89, 16, 83, 16, 32, 79, 89, 16, 84, 16, 32, 79, 89]
abbrev dktX7_init_33 : List UInt8 := dkwX7_init_33 ++ dktX7_init_34
def dkwX7_init_32 : List UInt8 := [16, 77, 16, 32, 79, 89, 16, 78, 16, 32, 79, 89, 16, 79, 16, 32, 79, 89, 16, 80, 16, 97, 79, 89]
abbrev dktX7_init_32 : List UInt8 := dkwX7_init_32 ++ dktX7_init_33
def dkwX7_init_31 : List UInt8 := [16, 73, 16, 114, 79, 89, 16, 74, 16, 32, 79, 89, 16, 75, 16, 32, 79, 89, 16, 76, 16, 32, 79, 89]
abbrev dktX7_init_31 : List UInt8 := dkwX7_init_31 ++ dktX7_init_32
def dkwX7_init_30 : List UInt8 := [16, 69, 16, 32, 79, 89, 16, 70, 16, 32, 79, 89, 16, 71, 16, 32, 79, 89, 16, 72, 16, 111, 79, 89]
abbrev dktX7_init_30 : List UInt8 := dkwX7_init_30 ++ dktX7_init_31
def dkwX7_init_29 : List UInt8 := [16, 65, 16, 111, 79, 89, 16, 66, 16, 114, 79, 89, 16, 67, 16, 101, 79, 89, 16, 68, 16, 32, 79, 89]
abbrev dktX7_init_29 : List UInt8 := dkwX7_init_29 ++ dktX7_init_30
def dkwX7_init_28 : List UInt8 := [16, 61, 16, 32, 79, 89, 16, 62, 16, 32, 79, 89, 16, 63, 16, 32, 79, 89, 16, 64, 16, 109, 79, 89]
abbrev dktX7_init_28 : List UInt8 := dkwX7_init_28 ++ dktX7_init_29
def dkwX7_init_27 : List UInt8 := [16, 57, 16, 117, 79, 89, 16, 58, 16, 99, 79, 89, 16, 59, 16, 107, 79, 89, 16, 60, 16, 32, 79, 89]
abbrev dktX7_init_27 : List UInt8 := dkwX7_init_27 ++ dktX7_init_28
def dkwX7_init_26 : List UInt8 := [16, 53, 16, 32, 79, 89, 16, 54, 16, 32, 79, 89, 16, 55, 16, 32, 79, 89, 16, 56, 16, 108, 79, 89]
abbrev dktX7_init_26 : List UInt8 := dkwX7_init_26 ++ dktX7_init_27
def dkwX7_init_25 : List UInt8 := [16, 49, 16, 105, 79, 89, 16, 50, 16, 100, 79, 89, 16, 51, 16, 101, 79, 89, 16, 52, 16, 32, 79, 89]
abbrev dktX7_init_25 : List UInt8 := dkwX7_init_25 ++ dktX7_init_26
def dkwX7_init_24 : List UInt8 := [16, 45, 16, 32, 79, 89, 16, 46, 16, 32, 79, 89, 16, 47, 16, 32, 79, 89, 16, 48, 16, 116, 79, 89]
abbrev dktX7_init_24 : List UInt8 := dkwX7_init_24 ++ dktX7_init_25
def dkwX7_init_23 : List UInt8 := [16, 41, 16, 101, 79, 89, 16, 42, 16, 112, 79, 89, 16, 43, 16, 116, 79, 89, 16, 44, 16, 32, 79, 89]
abbrev dktX7_init_23 : List UInt8 := dkwX7_init_23 ++ dktX7_init_24
def dkwX7_init_22 : List UInt8 := [16, 37, 16, 32, 79, 89, 16, 38, 16, 32, 79, 89, 16, 39, 16, 32, 79, 89, 16, 40, 16, 107, 79, 89]
abbrev dktX7_init_22 : List UInt8 := dkwX7_init_22 ++ dktX7_init_23
def dkwX7_init_21 : List UInt8 := [16, 33, 16, 110, 79, 89, 16, 34, 16, 111, 79, 89, 16, 35, 16, 119, 79, 89, 16, 36, 16, 110, 79, 89]
abbrev dktX7_init_21 : List UInt8 := dkwX7_init_21 ++ dktX7_init_22
def dkwX7_init_20 : List UInt8 := [16, 29, 16, 32, 79, 89, 16, 30, 16, 32, 79, 89, 16, 31, 16, 32, 79, 89, 16, 32, 16, 107, 79, 89]
abbrev dktX7_init_20 : List UInt8 := dkwX7_init_20 ++ dktX7_init_21
def dkwX7_init_19 : List UInt8 := [16, 25, 16, 104, 79, 89, 16, 26, 16, 105, 79, 89, 16, 27, 16, 110, 79, 89, 16, 28, 16, 103, 79, 89]
abbrev dktX7_init_19 : List UInt8 := dkwX7_init_19 ++ dktX7_init_20
def dkwX7_init_18 : List UInt8 := [16, 21, 16, 32, 79, 89, 16, 22, 16, 32, 79, 89, 16, 23, 16, 32, 79, 89, 16, 24, 16, 116, 79, 89]
abbrev dktX7_init_18 : List UInt8 := dkwX7_init_18 ++ dktX7_init_19
def dkwX7_init_17 : List UInt8 := [16, 17, 16, 97, 79, 89, 16, 18, 16, 107, 79, 89, 16, 19, 16, 101, 79, 89, 16, 20, 16, 115, 79, 89]
abbrev dktX7_init_17 : List UInt8 := dkwX7_init_17 ++ dktX7_init_18
def dkwX7_init_16 : List UInt8 := [16, 13, 16, 32, 79, 89, 16, 14, 16, 32, 79, 89, 16, 15, 16, 32, 79, 89, 16, 16, 16, 116, 79, 89]
abbrev dktX7_init_16 : List UInt8 := dkwX7_init_16 ++ dktX7_init_17
def dkwX7_init_15 : List UInt8 := [16, 9, 16, 117, 79, 89, 16, 10, 16, 99, 79, 89, 16, 11, 16, 107, 79, 89, 16, 12, 16, 115, 79, 89]
abbrev dktX7_init_15 : List UInt8 := dkwX7_init_15 ++ dktX7_init_16
def dkwX7_init_14 : List UInt8 := [8, 16, 32, 79, 89, 16, 6, 16, 32, 79, 89, 16, 7, 16, 32, 79, 89, 16, 8, 16, 108, 79, 89]
abbrev dktX7_init_14 : List UInt8 := dkwX7_init_14 ++ dktX7_init_15
def dkwX7_init_13 : List UInt8 := [16, 108, 79, 89, 4, 16, 101, 79, 89, 5, 16, 116, 79, 89, 6, 16, 115, 79, 89, 7, 16, 32, 79, 89]
abbrev dktX7_init_13 : List UInt8 := dkwX7_init_13 ++ dktX7_init_14
def dkwX7_init_12 : List UInt8 := [79, 89, 16, 30, 16, 32, 79, 89, 16, 31, 16, 59, 79, 181, 0, 43, 42, 16, 96, 188, 10, 89, 3]
abbrev dktX7_init_12 : List UInt8 := dkwX7_init_12 ++ dktX7_init_13
def dkwX7_init_11 : List UInt8 := [79, 89, 16, 26, 16, 101, 79, 89, 16, 27, 16, 115, 79, 89, 16, 28, 16, 32, 79, 89, 16, 29, 16, 50]
abbrev dktX7_init_11 : List UInt8 := dkwX7_init_11 ++ dktX7_init_12
def dkwX7_init_10 : List UInt8 := [79, 89, 16, 22, 16, 32, 79, 89, 16, 23, 16, 116, 79, 89, 16, 24, 16, 97, 79, 89, 16, 25, 16, 107]
abbrev dktX7_init_10 : List UInt8 := dkwX7_init_10 ++ dktX7_init_11
def dkwX7_init_9 : List UInt8 := [79, 89, 16, 18, 16, 32, 79, 89, 16, 19, 16, 53, 79, 89, 16, 20, 16, 32, 79, 89, 16, 21, 16, 59]
abbrev dktX7_init_9 : List UInt8 := dkwX7_init_9 ++ dktX7_init_10
def dkwX7_init_8 : List UInt8 := [79, 89, 16, 14, 16, 117, 79, 89, 16, 15, 16, 99, 79, 89, 16, 16, 16, 107, 79, 89, 16, 17, 16, 115]
abbrev dktX7_init_8 : List UInt8 := dkwX7_init_8 ++ dktX7_init_9
def dkwX7_init_7 : List UInt8 := [79, 89, 16, 10, 16, 32, 79, 89, 16, 11, 16, 59, 79, 89, 16, 12, 16, 32, 79, 89, 16, 13, 16, 108]
abbrev dktX7_init_7 : List UInt8 := dkwX7_init_7 ++ dktX7_init_8
def dkwX7_init_6 : List UInt8 := [79, 89, 16, 6, 16, 104, 79, 89, 16, 7, 16, 105, 79, 89, 16, 8, 16, 110, 79, 89, 16, 9, 16, 103]
abbrev dktX7_init_6 : List UInt8 := dkwX7_init_6 ++ dktX7_init_7
def dkwX7_init_5 : List UInt8 := [89, 4, 16, 101, 79, 89, 5, 16, 116, 79, 89, 6, 16, 115, 79, 89, 7, 16, 32, 79, 89, 8, 16, 116]
abbrev dktX7_init_5 : List UInt8 := dkwX7_init_5 ++ dktX7_init_6
def dkwX7_init_4 : List UInt8 := [188, 10, 181, 0, 37, 42, 17, 0, 160, 188, 10, 181, 0, 40, 42, 16, 32, 188, 10, 89, 3, 16, 108, 79]
abbrev dktX7_init_4 : List UInt8 := dkwX7_init_4 ++ dktX7_init_5
def dkwX7_init_3 : List UInt8 := [188, 10, 89, 3, 2, 79, 89, 4, 2, 79, 89, 5, 2, 79, 89, 6, 2, 79, 181, 0, 34, 42, 7]
abbrev dktX7_init_3 : List UInt8 := dkwX7_init_3 ++ dktX7_init_4
def dkwX7_init_2 : List UInt8 := [16, 24, 188, 10, 181, 0, 25, 42, 16, 18, 188, 10, 181, 0, 28, 42, 7, 188, 10, 181, 0, 31, 42, 7]
abbrev dktX7_init_2 : List UInt8 := dkwX7_init_2 ++ dktX7_init_3
def dkwX7_init_1 : List UInt8 := [188, 10, 181, 0, 16, 42, 17, 0, 160, 188, 10, 181, 0, 19, 42, 17, 4, 176, 188, 10, 181, 0, 22, 42]
abbrev dktX7_init_1 : List UInt8 := dkwX7_init_1 ++ dktX7_init_2
def dkwX7_init_0 : List UInt8 := [42, 183, 0, 1, 42, 16, 6, 188, 10, 181, 0, 7, 42, 16, 6, 188, 10, 181, 0, 13, 42, 16, 18]
abbrev dktX7_init_0 : List UInt8 := dkwX7_init_0 ++ dktX7_init_1
theorem dksX7_init_0 : cX7_init.data.toList.drop 0 = dktX7_init_0 := by decide +kernel
theorem dksX7_init_1 : cX7_init.data.toList.drop 23 = dktX7_init_1 := dk_seg dksX7_init_0 23 rfl rfl
theorem dksX7_init_2 : cX7_init.data.toList.drop 47 = dktX7_init_2 := dk_seg dksX7_init_1 24 rfl rfl
theorem dksX7_init_3 : cX7_init.data.toList.drop 71 = dktX7_init_3 := dk_seg dksX7_init_2 24 rfl rfl
theorem dksX7_init_4 : cX7_init.data.toList.drop 94 = dktX7_init_4 := dk_seg dksX7_init_3 23 rfl rfl
theorem dksX7_init_5 : cX7_init.data.toList.drop 118 = dktX7_init_5 := dk_seg dksX7_init_4 24 rfl rfl
theorem dksX7_init_6 : cX7_init.data.toList.drop 142 = dktX7_init_6 := dk_seg dksX7_init_5 24 rfl rfl
theorem dksX7_init_7 : cX7_init.data.toList.drop 166 = dktX7_init_7 := dk_seg dksX7_init_6 24 rfl rfl
theorem dksX7_init_8 : cX7_init.data.toList.drop 190 = dktX7_init_8 := dk_seg dksX7_init_7 24 rfl rfl
theorem dksX7_init_9 : cX7_init.data.toList.drop 214 = dktX7_init_9 := dk_seg dksX7_init_8 24 rfl rfl
theorem dksX7_init_10 : cX7_init.data.toList.drop 238 = dktX7_init_10 := dk_seg dksX7_init_9 24 rfl rfl
theorem dksX7_init_11 : cX7_init.data.toList.drop 262 = dktX7_init_11 := dk_seg dksX7_init_10 24 rfl rfl
theorem dksX7_init_12 : cX7_init.data.toList.drop 286 = dktX7_init_12 := dk_seg dksX7_init_11 24 rfl rfl
theorem dksX7_init_13 : cX7_init.data.toList.drop 309 = dktX7_init_13 := dk_seg dksX7_init_12 23 rfl rfl
theorem dksX7_init_14 : cX7_init.data.toList.drop 333 = dktX7_init_14 := dk_seg dksX7_init_13 24 rfl rfl
theorem dksX7_init_15 : cX7_init.data.toList.drop 356 = dktX7_init_15 := dk_seg dksX7_init_14 23 rfl rfl
theorem dksX7_init_16 : cX7_init.data.toList.drop 380 = dktX7_init_16 := dk_seg dksX7_init_15 24 rfl rfl
theorem dksX7_init_17 : cX7_init.data.toList.drop 404 = dktX7_init_17 := dk_seg dksX7_init_16 24 rfl rfl
theorem dksX7_init_18 : cX7_init.data.toList.drop 428 = dktX7_init_18 := dk_seg dksX7_init_17 24 rfl rfl
theorem dksX7_init_19 : cX7_init.data.toList.drop 452 = dktX7_init_19 := dk_seg dksX7_init_18 24 rfl rfl
theorem dksX7_init_20 : cX7_init.data.toList.drop 476 = dktX7_init_20 := dk_seg dksX7_init_19 24 rfl rfl
theorem dksX7_init_21 : cX7_init.data.toList.drop 500 = dktX7_init_21 := dk_seg dksX7_init_20 24 rfl rfl
theorem dksX7_init_22 : cX7_init.data.toList.drop 524 = dktX7_init_22 := dk_seg dksX7_init_21 24 rfl rfl
theorem dksX7_init_23 : cX7_init.data.toList.drop 548 = dktX7_init_23 := dk_seg dksX7_init_22 24 rfl rfl
theorem dksX7_init_24 : cX7_init.data.toList.drop 572 = dktX7_init_24 := dk_seg dksX7_init_23 24 rfl rfl
theorem dksX7_init_25 : cX7_init.data.toList.drop 596 = dktX7_init_25 := dk_seg dksX7_init_24 24 rfl rfl
theorem dksX7_init_26 : cX7_init.data.toList.drop 620 = dktX7_init_26 := dk_seg dksX7_init_25 24 rfl rfl
theorem dksX7_init_27 : cX7_init.data.toList.drop 644 = dktX7_init_27 := dk_seg dksX7_init_26 24 rfl rfl
theorem dksX7_init_28 : cX7_init.data.toList.drop 668 = dktX7_init_28 := dk_seg dksX7_init_27 24 rfl rfl
theorem dksX7_init_29 : cX7_init.data.toList.drop 692 = dktX7_init_29 := dk_seg dksX7_init_28 24 rfl rfl
theorem dksX7_init_30 : cX7_init.data.toList.drop 716 = dktX7_init_30 := dk_seg dksX7_init_29 24 rfl rfl
theorem dksX7_init_31 : cX7_init.data.toList.drop 740 = dktX7_init_31 := dk_seg dksX7_init_30 24 rfl rfl
theorem dksX7_init_32 : cX7_init.data.toList.drop 764 = dktX7_init_32 := dk_seg dksX7_init_31 24 rfl rfl
theorem dksX7_init_33 : cX7_init.data.toList.drop 788 = dktX7_init_33 := dk_seg dksX7_init_32 24 rfl rfl
theorem dksX7_init_34 : cX7_init.data.toList.drop 812 = dktX7_init_34 := dk_seg dksX7_init_33 24 rfl rfl
theorem dksX7_init_35 : cX7_init.data.toList.drop 836 = dktX7_init_35 := dk_seg dksX7_init_34 24 rfl rfl
theorem dksX7_init_36 : cX7_init.data.toList.drop 860 = dktX7_init_36 := dk_seg dksX7_init_35 24 rfl rfl
theorem dksX7_init_37 : cX7_init.data.toList.drop 884 = dktX7_init_37 := dk_seg dksX7_init_36 24 rfl rfl
theorem dksX7_init_38 : cX7_init.data.toList.drop 907 = dktX7_init_38 := dk_seg dksX7_init_37 23 rfl rfl
theorem dksX7_init_39 : cX7_init.data.toList.drop 931 = dktX7_init_39 := dk_seg dksX7_init_38 24 rfl rfl
theorem dX7_init_0 : decode cX7_init 0 = .ok (.aload_n 0, 1) := dk_42 (dk_at dksX7_init_0 0 rfl rfl)
theorem dX7_init_1 : decode cX7_init 1 = .ok (.invokespecial 1, 3) := dk_183 0 1 (dk_at dksX7_init_0 1 rfl rfl)
theorem dX7_init_4 : decode cX7_init 4 = .ok (.aload_n 0, 1) := dk_42 (dk_at dksX7_init_0 4 rfl rfl)
theorem dX7_init_5 : decode cX7_init 5 = .ok (.bipush 6, 2) := dk_16 6 (dk_at dksX7_init_0 5 rfl rfl)
theorem dX7_init_7 : decode cX7_init 7 = .ok (.newarray .int, 2) := dk_188_10 (dk_at dksX7_init_0 7 rfl rfl)
theorem dX7_init_9 : decode cX7_init 9 = .ok (.putfield 7, 3) := dk_181 0 7 (dk_at dksX7_init_0 9 rfl rfl)
theorem dX7_init_12 : decode cX7_init 12 = .ok (.aload_n 0, 1) := dk_42 (dk_at dksX7_init_0 12 rfl rfl)
theorem dX7_init_13 : decode cX7_init 13 = .ok (.bipush 6, 2) := dk_16 6 (dk_at dksX7_init_0 13 rfl rfl)
theorem dX7_init_15 : decode cX7_init 15 = .ok (.newarray .int, 2) := dk_188_10 (dk_at dksX7_init_0 15 rfl rfl)
theorem dX7_init_17 : decode cX7_init 17 = .ok (.putfield 13, 3) := dk_181 0 13 (dk_at dksX7_init_0 17 rfl rfl)
theorem dX7_init_20 : decode cX7_init 20 = .ok (.aload_n 0, 1) := dk_42 (dk_at dksX7_init_0 20 rfl rfl)
theorem dX7_init_21 : decode cX7_init 21 = .ok (.bipush 18, 2) := dk_16 18 (dk_at dksX7_init_0 21 rfl rfl)
theorem dX7_init_23 : decode cX7_init 23 = .ok (.newarray .int, 2) := dk_188_10 (dk_at dksX7_init_1 0 rfl rfl)
theorem dX7_init_25 : decode cX7_init 25 = .ok (.putfield 16, 3) := dk_181 0 16 (dk_at dksX7_init_1 2 rfl rfl)
theorem dX7_init_28 : decode cX7_init 28 = .ok (.aload_n 0, 1) := dk_42 (dk_at dksX7_init_1 5 rfl rfl)
theorem dX7_init_29 : decode cX7_init 29 = .ok (.sipush 160, 3) := dk_17 0 160 (dk_at dksX7_init_1 6 rfl rfl)
theorem dX7_init_32 : decode cX7_init 32 = .ok (.newarray .int, 2) := dk_188_10 (dk_at dksX7_init_1 9 rfl rfl)
theorem dX7_init_34 : decode cX7_init 34 = .ok (.putfield 19, 3) := dk_181 0 19 (dk_at dksX7_init_1 11 rfl rfl)
theorem dX7_init_37 : decode cX7_init 37 = .ok (.aload_n 0, 1) := dk_42 (dk_at dksX7_init_1 14 rfl rfl)
theorem dX7_init_38 : decode cX7_init 38 = .ok (.sipush 1200, 3) := dk_17 4 176 (dk_at dksX7_init_1 15 rfl rfl)
theorem dX7_init_41 : decode cX7_init 41 = .ok (.newarray .int, 2) := dk_188_10 (dk_at dksX7_init_1 18 rfl rfl)
theorem dX7_init_43 : decode cX7_init 43 = .ok (.putfield 22, 3) := dk_181 0 22 (dk_at dksX7_init_1 20 rfl rfl)
theorem dX7_init_46 : decode cX7_init 46 = .ok (.aload_n 0, 1) := dk_42 (dk_at dksX7_init_1 23 rfl rfl)
theorem dX7_init_47 : decode cX7_init 47 = .ok (.bipush 24, 2) := dk_16 24 (dk_at dksX7_init_2 0 rfl rfl)
theorem dX7_init_49 : decode cX7_init 49 = .ok (.newarray .int, 2) := dk_188_10 (dk_at dksX7_init_2 2 rfl rfl)
theorem dX7_init_51 : decode cX7_init 51 = .ok (.putfield 25, 3) := dk_181 0 25 (dk_at dksX7_init_2 4 rfl rfl)
theorem dX7_init_54 : decode cX7_init 54 = .ok (.aload_n 0, 1) := dk_42 (dk_at dksX7_init_2 7 rfl rfl)
theorem dX7_init_55 : decode cX7_init 55 = .ok (.bipush 18, 2) := dk_16 18 (dk_at dksX7_init_2 8 rfl rfl)
theorem dX7_init_57 : decode cX7_init 57 = .ok (.newarray .int, 2) := dk_188_10 (dk_at dksX7_init_2 10 rfl rfl)
theorem dX7_init_59 : decode cX7_init 59 = .ok (.putfield 28, 3) := dk_181 0 28 (dk_at dksX7_init_2 12 rfl rfl)
theorem dX7_init_62 : decode cX7_init 62 = .ok (.aload_n 0, 1) := dk_42 (dk_at dksX7_init_2 15 rfl rfl)
theorem dX7_init_63 : decode cX7_init 63 = .ok (.iconst 4, 1) := dk_7 (dk_at dksX7_init_2 16 rfl rfl)
theorem dX7_init_64 : decode cX7_init 64 = .ok (.newarray .int, 2) := dk_188_10 (dk_at dksX7_init_2 17 rfl rfl)
theorem dX7_init_66 : decode cX7_init 66 = .ok (.putfield 31, 3) := dk_181 0 31 (dk_at dksX7_init_2 19 rfl rfl)
theorem dX7_init_69 : decode cX7_init 69 = .ok (.aload_n 0, 1) := dk_42 (dk_at dksX7_init_2 22 rfl rfl)
theorem dX7_init_70 : decode cX7_init 70 = .ok (.iconst 4, 1) := dk_7 (dk_at dksX7_init_2 23 rfl rfl)
theorem dX7_init_71 : decode cX7_init 71 = .ok (.newarray .int, 2) := dk_188_10 (dk_at dksX7_init_3 0 rfl rfl)
theorem dX7_init_73 : decode cX7_init 73 = .ok (.dup, 1) := dk_89 (dk_at dksX7_init_3 2 rfl rfl)
theorem dX7_init_74 : decode cX7_init 74 = .ok (.iconst 0, 1) := dk_3 (dk_at dksX7_init_3 3 rfl rfl)
theorem dX7_init_75 : decode cX7_init 75 = .ok (.iconst (-1), 1) := dk_2 (dk_at dksX7_init_3 4 rfl rfl)
theorem dX7_init_76 : decode cX7_init 76 = .ok (.iastore, 1) := dk_79 (dk_at dksX7_init_3 5 rfl rfl)
theorem dX7_init_77 : decode cX7_init 77 = .ok (.dup, 1) := dk_89 (dk_at dksX7_init_3 6 rfl rfl)
theorem dX7_init_78 : decode cX7_init 78 = .ok (.iconst 1, 1) := dk_4 (dk_at dksX7_init_3 7 rfl rfl)
theorem dX7_init_79 : decode cX7_init 79 = .ok (.iconst (-1), 1) := dk_2 (dk_at dksX7_init_3 8 rfl rfl)
theorem dX7_init_80 : decode cX7_init 80 = .ok (.iastore, 1) := dk_79 (dk_at dksX7_init_3 9 rfl rfl)
theorem dX7_init_81 : decode cX7_init 81 = .ok (.dup, 1) := dk_89 (dk_at dksX7_init_3 10 rfl rfl)
theorem dX7_init_82 : decode cX7_init 82 = .ok (.iconst 2, 1) := dk_5 (dk_at dksX7_init_3 11 rfl rfl)
theorem dX7_init_83 : decode cX7_init 83 = .ok (.iconst (-1), 1) := dk_2 (dk_at dksX7_init_3 12 rfl rfl)
theorem dX7_init_84 : decode cX7_init 84 = .ok (.iastore, 1) := dk_79 (dk_at dksX7_init_3 13 rfl rfl)
theorem dX7_init_85 : decode cX7_init 85 = .ok (.dup, 1) := dk_89 (dk_at dksX7_init_3 14 rfl rfl)
theorem dX7_init_86 : decode cX7_init 86 = .ok (.iconst 3, 1) := dk_6 (dk_at dksX7_init_3 15 rfl rfl)
theorem dX7_init_87 : decode cX7_init 87 = .ok (.iconst (-1), 1) := dk_2 (dk_at dksX7_init_3 16 rfl rfl)
theorem dX7_init_88 : decode cX7_init 88 = .ok (.iastore, 1) := dk_79 (dk_at dksX7_init_3 17 rfl rfl)
theorem dX7_init_89 : decode cX7_init 89 = .ok (.putfield 34, 3) := dk_181 0 34 (dk_at dksX7_init_3 18 rfl rfl)
theorem dX7_init_92 : decode cX7_init 92 = .ok (.aload_n 0, 1) := dk_42 (dk_at dksX7_init_3 21 rfl rfl)
theorem dX7_init_93 : decode cX7_init 93 = .ok (.iconst 4, 1) := dk_7 (dk_at dksX7_init_3 22 rfl rfl)
theorem dX7_init_94 : decode cX7_init 94 = .ok (.newarray .int, 2) := dk_188_10 (dk_at dksX7_init_4 0 rfl rfl)
theorem dX7_init_96 : decode cX7_init 96 = .ok (.putfield 37, 3) := dk_181 0 37 (dk_at dksX7_init_4 2 rfl rfl)
theorem dX7_init_99 : decode cX7_init 99 = .ok (.aload_n 0, 1) := dk_42 (dk_at dksX7_init_4 5 rfl rfl)
theorem dX7_init_100 : decode cX7_init 100 = .ok (.sipush 160, 3) := dk_17 0 160 (dk_at dksX7_init_4 6 rfl rfl)
theorem dX7_init_103 : decode cX7_init 103 = .ok (.newarray .int, 2) := dk_188_10 (dk_at dksX7_init_4 9 rfl rfl)
theorem dX7_init_105 : decode cX7_init 105 = .ok (.putfield 40, 3) := dk_181 0 40 (dk_at dksX7_init_4 11 rfl rfl)
theorem dX7_init_108 : decode cX7_init 108 = .ok (.aload_n 0, 1) := dk_42 (dk_at dksX7_init_4 14 rfl rfl)
theorem dX7_init_109 : decode cX7_init 109 = .ok (.bipush 32, 2) := dk_16 32 (dk_at dksX7_init_4 15 rfl rfl)
theorem dX7_init_111 : decode cX7_init 111 = .ok (.newarray .int, 2) := dk_188_10 (dk_at dksX7_init_4 17 rfl rfl)
theorem dX7_init_113 : decode cX7_init 113 = .ok (.dup, 1) := dk_89 (dk_at dksX7_init_4 19 rfl rfl)
theorem dX7_init_114 : decode cX7_init 114 = .ok (.iconst 0, 1) := dk_3 (dk_at dksX7_init_4 20 rfl rfl)
theorem dX7_init_115 : decode cX7_init 115 = .ok (.bipush 108, 2) := dk_16 108 (dk_at dksX7_init_4 21 rfl rfl)
theorem dX7_init_117 : decode cX7_init 117 = .ok (.iastore, 1) := dk_79 (dk_at dksX7_init_4 23 rfl rfl)
theorem dX7_init_118 : decode cX7_init 118 = .ok (.dup, 1) := dk_89 (dk_at dksX7_init_5 0 rfl rfl)
theorem dX7_init_119 : decode cX7_init 119 = .ok (.iconst 1, 1) := dk_4 (dk_at dksX7_init_5 1 rfl rfl)
theorem dX7_init_120 : decode cX7_init 120 = .ok (.bipush 101, 2) := dk_16 101 (dk_at dksX7_init_5 2 rfl rfl)
theorem dX7_init_122 : decode cX7_init 122 = .ok (.iastore, 1) := dk_79 (dk_at dksX7_init_5 4 rfl rfl)
theorem dX7_init_123 : decode cX7_init 123 = .ok (.dup, 1) := dk_89 (dk_at dksX7_init_5 5 rfl rfl)
theorem dX7_init_124 : decode cX7_init 124 = .ok (.iconst 2, 1) := dk_5 (dk_at dksX7_init_5 6 rfl rfl)
theorem dX7_init_125 : decode cX7_init 125 = .ok (.bipush 116, 2) := dk_16 116 (dk_at dksX7_init_5 7 rfl rfl)
theorem dX7_init_127 : decode cX7_init 127 = .ok (.iastore, 1) := dk_79 (dk_at dksX7_init_5 9 rfl rfl)
theorem dX7_init_128 : decode cX7_init 128 = .ok (.dup, 1) := dk_89 (dk_at dksX7_init_5 10 rfl rfl)
theorem dX7_init_129 : decode cX7_init 129 = .ok (.iconst 3, 1) := dk_6 (dk_at dksX7_init_5 11 rfl rfl)
theorem dX7_init_130 : decode cX7_init 130 = .ok (.bipush 115, 2) := dk_16 115 (dk_at dksX7_init_5 12 rfl rfl)
theorem dX7_init_132 : decode cX7_init 132 = .ok (.iastore, 1) := dk_79 (dk_at dksX7_init_5 14 rfl rfl)
theorem dX7_init_133 : decode cX7_init 133 = .ok (.dup, 1) := dk_89 (dk_at dksX7_init_5 15 rfl rfl)
theorem dX7_init_134 : decode cX7_init 134 = .ok (.iconst 4, 1) := dk_7 (dk_at dksX7_init_5 16 rfl rfl)
theorem dX7_init_135 : decode cX7_init 135 = .ok (.bipush 32, 2) := dk_16 32 (dk_at dksX7_init_5 17 rfl rfl)
theorem dX7_init_137 : decode cX7_init 137 = .ok (.iastore, 1) := dk_79 (dk_at dksX7_init_5 19 rfl rfl)
theorem dX7_init_138 : decode cX7_init 138 = .ok (.dup, 1) := dk_89 (dk_at dksX7_init_5 20 rfl rfl)
theorem dX7_init_139 : decode cX7_init 139 = .ok (.iconst 5, 1) := dk_8 (dk_at dksX7_init_5 21 rfl rfl)
theorem dX7_init_140 : decode cX7_init 140 = .ok (.bipush 116, 2) := dk_16 116 (dk_at dksX7_init_5 22 rfl rfl)
theorem dX7_init_142 : decode cX7_init 142 = .ok (.iastore, 1) := dk_79 (dk_at dksX7_init_6 0 rfl rfl)
theorem dX7_init_143 : decode cX7_init 143 = .ok (.dup, 1) := dk_89 (dk_at dksX7_init_6 1 rfl rfl)
theorem dX7_init_144 : decode cX7_init 144 = .ok (.bipush 6, 2) := dk_16 6 (dk_at dksX7_init_6 2 rfl rfl)
theorem dX7_init_146 : decode cX7_init 146 = .ok (.bipush 104, 2) := dk_16 104 (dk_at dksX7_init_6 4 rfl rfl)
theorem dX7_init_148 : decode cX7_init 148 = .ok (.iastore, 1) := dk_79 (dk_at dksX7_init_6 6 rfl rfl)
theorem dX7_init_149 : decode cX7_init 149 = .ok (.dup, 1) := dk_89 (dk_at dksX7_init_6 7 rfl rfl)
theorem dX7_init_150 : decode cX7_init 150 = .ok (.bipush 7, 2) := dk_16 7 (dk_at dksX7_init_6 8 rfl rfl)
theorem dX7_init_152 : decode cX7_init 152 = .ok (.bipush 105, 2) := dk_16 105 (dk_at dksX7_init_6 10 rfl rfl)
theorem dX7_init_154 : decode cX7_init 154 = .ok (.iastore, 1) := dk_79 (dk_at dksX7_init_6 12 rfl rfl)
theorem dX7_init_155 : decode cX7_init 155 = .ok (.dup, 1) := dk_89 (dk_at dksX7_init_6 13 rfl rfl)
theorem dX7_init_156 : decode cX7_init 156 = .ok (.bipush 8, 2) := dk_16 8 (dk_at dksX7_init_6 14 rfl rfl)
theorem dX7_init_158 : decode cX7_init 158 = .ok (.bipush 110, 2) := dk_16 110 (dk_at dksX7_init_6 16 rfl rfl)
theorem dX7_init_160 : decode cX7_init 160 = .ok (.iastore, 1) := dk_79 (dk_at dksX7_init_6 18 rfl rfl)
theorem dX7_init_161 : decode cX7_init 161 = .ok (.dup, 1) := dk_89 (dk_at dksX7_init_6 19 rfl rfl)
theorem dX7_init_162 : decode cX7_init 162 = .ok (.bipush 9, 2) := dk_16 9 (dk_at dksX7_init_6 20 rfl rfl)
theorem dX7_init_164 : decode cX7_init 164 = .ok (.bipush 103, 2) := dk_16 103 (dk_at dksX7_init_6 22 rfl rfl)
theorem dX7_init_166 : decode cX7_init 166 = .ok (.iastore, 1) := dk_79 (dk_at dksX7_init_7 0 rfl rfl)
theorem dX7_init_167 : decode cX7_init 167 = .ok (.dup, 1) := dk_89 (dk_at dksX7_init_7 1 rfl rfl)
theorem dX7_init_168 : decode cX7_init 168 = .ok (.bipush 10, 2) := dk_16 10 (dk_at dksX7_init_7 2 rfl rfl)
theorem dX7_init_170 : decode cX7_init 170 = .ok (.bipush 32, 2) := dk_16 32 (dk_at dksX7_init_7 4 rfl rfl)
theorem dX7_init_172 : decode cX7_init 172 = .ok (.iastore, 1) := dk_79 (dk_at dksX7_init_7 6 rfl rfl)
theorem dX7_init_173 : decode cX7_init 173 = .ok (.dup, 1) := dk_89 (dk_at dksX7_init_7 7 rfl rfl)
theorem dX7_init_174 : decode cX7_init 174 = .ok (.bipush 11, 2) := dk_16 11 (dk_at dksX7_init_7 8 rfl rfl)
theorem dX7_init_176 : decode cX7_init 176 = .ok (.bipush 59, 2) := dk_16 59 (dk_at dksX7_init_7 10 rfl rfl)
theorem dX7_init_178 : decode cX7_init 178 = .ok (.iastore, 1) := dk_79 (dk_at dksX7_init_7 12 rfl rfl)
theorem dX7_init_179 : decode cX7_init 179 = .ok (.dup, 1) := dk_89 (dk_at dksX7_init_7 13 rfl rfl)
theorem dX7_init_180 : decode cX7_init 180 = .ok (.bipush 12, 2) := dk_16 12 (dk_at dksX7_init_7 14 rfl rfl)
theorem dX7_init_182 : decode cX7_init 182 = .ok (.bipush 32, 2) := dk_16 32 (dk_at dksX7_init_7 16 rfl rfl)
theorem dX7_init_184 : decode cX7_init 184 = .ok (.iastore, 1) := dk_79 (dk_at dksX7_init_7 18 rfl rfl)
theorem dX7_init_185 : decode cX7_init 185 = .ok (.dup, 1) := dk_89 (dk_at dksX7_init_7 19 rfl rfl)
theorem dX7_init_186 : decode cX7_init 186 = .ok (.bipush 13, 2) := dk_16 13 (dk_at dksX7_init_7 20 rfl rfl)
theorem dX7_init_188 : decode cX7_init 188 = .ok (.bipush 108, 2) := dk_16 108 (dk_at dksX7_init_7 22 rfl rfl)
theorem dX7_init_190 : decode cX7_init 190 = .ok (.iastore, 1) := dk_79 (dk_at dksX7_init_8 0 rfl rfl)
theorem dX7_init_191 : decode cX7_init 191 = .ok (.dup, 1) := dk_89 (dk_at dksX7_init_8 1 rfl rfl)
theorem dX7_init_192 : decode cX7_init 192 = .ok (.bipush 14, 2) := dk_16 14 (dk_at dksX7_init_8 2 rfl rfl)
theorem dX7_init_194 : decode cX7_init 194 = .ok (.bipush 117, 2) := dk_16 117 (dk_at dksX7_init_8 4 rfl rfl)
theorem dX7_init_196 : decode cX7_init 196 = .ok (.iastore, 1) := dk_79 (dk_at dksX7_init_8 6 rfl rfl)
theorem dX7_init_197 : decode cX7_init 197 = .ok (.dup, 1) := dk_89 (dk_at dksX7_init_8 7 rfl rfl)
theorem dX7_init_198 : decode cX7_init 198 = .ok (.bipush 15, 2) := dk_16 15 (dk_at dksX7_init_8 8 rfl rfl)
theorem dX7_init_200 : decode cX7_init 200 = .ok (.bipush 99, 2) := dk_16 99 (dk_at dksX7_init_8 10 rfl rfl)
theorem dX7_init_202 : decode cX7_init 202 = .ok (.iastore, 1) := dk_79 (dk_at dksX7_init_8 12 rfl rfl)
theorem dX7_init_203 : decode cX7_init 203 = .ok (.dup, 1) := dk_89 (dk_at dksX7_init_8 13 rfl rfl)
theorem dX7_init_204 : decode cX7_init 204 = .ok (.bipush 16, 2) := dk_16 16 (dk_at dksX7_init_8 14 rfl rfl)
theorem dX7_init_206 : decode cX7_init 206 = .ok (.bipush 107, 2) := dk_16 107 (dk_at dksX7_init_8 16 rfl rfl)
theorem dX7_init_208 : decode cX7_init 208 = .ok (.iastore, 1) := dk_79 (dk_at dksX7_init_8 18 rfl rfl)
theorem dX7_init_209 : decode cX7_init 209 = .ok (.dup, 1) := dk_89 (dk_at dksX7_init_8 19 rfl rfl)
theorem dX7_init_210 : decode cX7_init 210 = .ok (.bipush 17, 2) := dk_16 17 (dk_at dksX7_init_8 20 rfl rfl)
theorem dX7_init_212 : decode cX7_init 212 = .ok (.bipush 115, 2) := dk_16 115 (dk_at dksX7_init_8 22 rfl rfl)
theorem dX7_init_214 : decode cX7_init 214 = .ok (.iastore, 1) := dk_79 (dk_at dksX7_init_9 0 rfl rfl)
theorem dX7_init_215 : decode cX7_init 215 = .ok (.dup, 1) := dk_89 (dk_at dksX7_init_9 1 rfl rfl)
theorem dX7_init_216 : decode cX7_init 216 = .ok (.bipush 18, 2) := dk_16 18 (dk_at dksX7_init_9 2 rfl rfl)
theorem dX7_init_218 : decode cX7_init 218 = .ok (.bipush 32, 2) := dk_16 32 (dk_at dksX7_init_9 4 rfl rfl)
theorem dX7_init_220 : decode cX7_init 220 = .ok (.iastore, 1) := dk_79 (dk_at dksX7_init_9 6 rfl rfl)
theorem dX7_init_221 : decode cX7_init 221 = .ok (.dup, 1) := dk_89 (dk_at dksX7_init_9 7 rfl rfl)
theorem dX7_init_222 : decode cX7_init 222 = .ok (.bipush 19, 2) := dk_16 19 (dk_at dksX7_init_9 8 rfl rfl)
theorem dX7_init_224 : decode cX7_init 224 = .ok (.bipush 53, 2) := dk_16 53 (dk_at dksX7_init_9 10 rfl rfl)
theorem dX7_init_226 : decode cX7_init 226 = .ok (.iastore, 1) := dk_79 (dk_at dksX7_init_9 12 rfl rfl)
theorem dX7_init_227 : decode cX7_init 227 = .ok (.dup, 1) := dk_89 (dk_at dksX7_init_9 13 rfl rfl)
theorem dX7_init_228 : decode cX7_init 228 = .ok (.bipush 20, 2) := dk_16 20 (dk_at dksX7_init_9 14 rfl rfl)
theorem dX7_init_230 : decode cX7_init 230 = .ok (.bipush 32, 2) := dk_16 32 (dk_at dksX7_init_9 16 rfl rfl)
theorem dX7_init_232 : decode cX7_init 232 = .ok (.iastore, 1) := dk_79 (dk_at dksX7_init_9 18 rfl rfl)
theorem dX7_init_233 : decode cX7_init 233 = .ok (.dup, 1) := dk_89 (dk_at dksX7_init_9 19 rfl rfl)
theorem dX7_init_234 : decode cX7_init 234 = .ok (.bipush 21, 2) := dk_16 21 (dk_at dksX7_init_9 20 rfl rfl)
theorem dX7_init_236 : decode cX7_init 236 = .ok (.bipush 59, 2) := dk_16 59 (dk_at dksX7_init_9 22 rfl rfl)
theorem dX7_init_238 : decode cX7_init 238 = .ok (.iastore, 1) := dk_79 (dk_at dksX7_init_10 0 rfl rfl)
theorem dX7_init_239 : decode cX7_init 239 = .ok (.dup, 1) := dk_89 (dk_at dksX7_init_10 1 rfl rfl)
theorem dX7_init_240 : decode cX7_init 240 = .ok (.bipush 22, 2) := dk_16 22 (dk_at dksX7_init_10 2 rfl rfl)
theorem dX7_init_242 : decode cX7_init 242 = .ok (.bipush 32, 2) := dk_16 32 (dk_at dksX7_init_10 4 rfl rfl)
theorem dX7_init_244 : decode cX7_init 244 = .ok (.iastore, 1) := dk_79 (dk_at dksX7_init_10 6 rfl rfl)
theorem dX7_init_245 : decode cX7_init 245 = .ok (.dup, 1) := dk_89 (dk_at dksX7_init_10 7 rfl rfl)
theorem dX7_init_246 : decode cX7_init 246 = .ok (.bipush 23, 2) := dk_16 23 (dk_at dksX7_init_10 8 rfl rfl)
theorem dX7_init_248 : decode cX7_init 248 = .ok (.bipush 116, 2) := dk_16 116 (dk_at dksX7_init_10 10 rfl rfl)
theorem dX7_init_250 : decode cX7_init 250 = .ok (.iastore, 1) := dk_79 (dk_at dksX7_init_10 12 rfl rfl)
theorem dX7_init_251 : decode cX7_init 251 = .ok (.dup, 1) := dk_89 (dk_at dksX7_init_10 13 rfl rfl)
theorem dX7_init_252 : decode cX7_init 252 = .ok (.bipush 24, 2) := dk_16 24 (dk_at dksX7_init_10 14 rfl rfl)
theorem dX7_init_254 : decode cX7_init 254 = .ok (.bipush 97, 2) := dk_16 97 (dk_at dksX7_init_10 16 rfl rfl)
theorem dX7_init_256 : decode cX7_init 256 = .ok (.iastore, 1) := dk_79 (dk_at dksX7_init_10 18 rfl rfl)
theorem dX7_init_257 : decode cX7_init 257 = .ok (.dup, 1) := dk_89 (dk_at dksX7_init_10 19 rfl rfl)
theorem dX7_init_258 : decode cX7_init 258 = .ok (.bipush 25, 2) := dk_16 25 (dk_at dksX7_init_10 20 rfl rfl)
theorem dX7_init_260 : decode cX7_init 260 = .ok (.bipush 107, 2) := dk_16 107 (dk_at dksX7_init_10 22 rfl rfl)
theorem dX7_init_262 : decode cX7_init 262 = .ok (.iastore, 1) := dk_79 (dk_at dksX7_init_11 0 rfl rfl)
theorem dX7_init_263 : decode cX7_init 263 = .ok (.dup, 1) := dk_89 (dk_at dksX7_init_11 1 rfl rfl)
theorem dX7_init_264 : decode cX7_init 264 = .ok (.bipush 26, 2) := dk_16 26 (dk_at dksX7_init_11 2 rfl rfl)
theorem dX7_init_266 : decode cX7_init 266 = .ok (.bipush 101, 2) := dk_16 101 (dk_at dksX7_init_11 4 rfl rfl)
theorem dX7_init_268 : decode cX7_init 268 = .ok (.iastore, 1) := dk_79 (dk_at dksX7_init_11 6 rfl rfl)
theorem dX7_init_269 : decode cX7_init 269 = .ok (.dup, 1) := dk_89 (dk_at dksX7_init_11 7 rfl rfl)
theorem dX7_init_270 : decode cX7_init 270 = .ok (.bipush 27, 2) := dk_16 27 (dk_at dksX7_init_11 8 rfl rfl)
theorem dX7_init_272 : decode cX7_init 272 = .ok (.bipush 115, 2) := dk_16 115 (dk_at dksX7_init_11 10 rfl rfl)
theorem dX7_init_274 : decode cX7_init 274 = .ok (.iastore, 1) := dk_79 (dk_at dksX7_init_11 12 rfl rfl)
theorem dX7_init_275 : decode cX7_init 275 = .ok (.dup, 1) := dk_89 (dk_at dksX7_init_11 13 rfl rfl)
theorem dX7_init_276 : decode cX7_init 276 = .ok (.bipush 28, 2) := dk_16 28 (dk_at dksX7_init_11 14 rfl rfl)
theorem dX7_init_278 : decode cX7_init 278 = .ok (.bipush 32, 2) := dk_16 32 (dk_at dksX7_init_11 16 rfl rfl)
theorem dX7_init_280 : decode cX7_init 280 = .ok (.iastore, 1) := dk_79 (dk_at dksX7_init_11 18 rfl rfl)
theorem dX7_init_281 : decode cX7_init 281 = .ok (.dup, 1) := dk_89 (dk_at dksX7_init_11 19 rfl rfl)
theorem dX7_init_282 : decode cX7_init 282 = .ok (.bipush 29, 2) := dk_16 29 (dk_at dksX7_init_11 20 rfl rfl)
theorem dX7_init_284 : decode cX7_init 284 = .ok (.bipush 50, 2) := dk_16 50 (dk_at dksX7_init_11 22 rfl rfl)
theorem dX7_init_286 : decode cX7_init 286 = .ok (.iastore, 1) := dk_79 (dk_at dksX7_init_12 0 rfl rfl)
theorem dX7_init_287 : decode cX7_init 287 = .ok (.dup, 1) := dk_89 (dk_at dksX7_init_12 1 rfl rfl)
theorem dX7_init_288 : decode cX7_init 288 = .ok (.bipush 30, 2) := dk_16 30 (dk_at dksX7_init_12 2 rfl rfl)
theorem dX7_init_290 : decode cX7_init 290 = .ok (.bipush 32, 2) := dk_16 32 (dk_at dksX7_init_12 4 rfl rfl)
theorem dX7_init_292 : decode cX7_init 292 = .ok (.iastore, 1) := dk_79 (dk_at dksX7_init_12 6 rfl rfl)
theorem dX7_init_293 : decode cX7_init 293 = .ok (.dup, 1) := dk_89 (dk_at dksX7_init_12 7 rfl rfl)
theorem dX7_init_294 : decode cX7_init 294 = .ok (.bipush 31, 2) := dk_16 31 (dk_at dksX7_init_12 8 rfl rfl)
theorem dX7_init_296 : decode cX7_init 296 = .ok (.bipush 59, 2) := dk_16 59 (dk_at dksX7_init_12 10 rfl rfl)
theorem dX7_init_298 : decode cX7_init 298 = .ok (.iastore, 1) := dk_79 (dk_at dksX7_init_12 12 rfl rfl)
theorem dX7_init_299 : decode cX7_init 299 = .ok (.putfield 43, 3) := dk_181 0 43 (dk_at dksX7_init_12 13 rfl rfl)
theorem dX7_init_302 : decode cX7_init 302 = .ok (.aload_n 0, 1) := dk_42 (dk_at dksX7_init_12 16 rfl rfl)
theorem dX7_init_303 : decode cX7_init 303 = .ok (.bipush 96, 2) := dk_16 96 (dk_at dksX7_init_12 17 rfl rfl)
theorem dX7_init_305 : decode cX7_init 305 = .ok (.newarray .int, 2) := dk_188_10 (dk_at dksX7_init_12 19 rfl rfl)
theorem dX7_init_307 : decode cX7_init 307 = .ok (.dup, 1) := dk_89 (dk_at dksX7_init_12 21 rfl rfl)
theorem dX7_init_308 : decode cX7_init 308 = .ok (.iconst 0, 1) := dk_3 (dk_at dksX7_init_12 22 rfl rfl)
theorem dX7_init_309 : decode cX7_init 309 = .ok (.bipush 108, 2) := dk_16 108 (dk_at dksX7_init_13 0 rfl rfl)
theorem dX7_init_311 : decode cX7_init 311 = .ok (.iastore, 1) := dk_79 (dk_at dksX7_init_13 2 rfl rfl)
theorem dX7_init_312 : decode cX7_init 312 = .ok (.dup, 1) := dk_89 (dk_at dksX7_init_13 3 rfl rfl)
theorem dX7_init_313 : decode cX7_init 313 = .ok (.iconst 1, 1) := dk_4 (dk_at dksX7_init_13 4 rfl rfl)
theorem dX7_init_314 : decode cX7_init 314 = .ok (.bipush 101, 2) := dk_16 101 (dk_at dksX7_init_13 5 rfl rfl)
theorem dX7_init_316 : decode cX7_init 316 = .ok (.iastore, 1) := dk_79 (dk_at dksX7_init_13 7 rfl rfl)
theorem dX7_init_317 : decode cX7_init 317 = .ok (.dup, 1) := dk_89 (dk_at dksX7_init_13 8 rfl rfl)
theorem dX7_init_318 : decode cX7_init 318 = .ok (.iconst 2, 1) := dk_5 (dk_at dksX7_init_13 9 rfl rfl)
theorem dX7_init_319 : decode cX7_init 319 = .ok (.bipush 116, 2) := dk_16 116 (dk_at dksX7_init_13 10 rfl rfl)
theorem dX7_init_321 : decode cX7_init 321 = .ok (.iastore, 1) := dk_79 (dk_at dksX7_init_13 12 rfl rfl)
theorem dX7_init_322 : decode cX7_init 322 = .ok (.dup, 1) := dk_89 (dk_at dksX7_init_13 13 rfl rfl)
theorem dX7_init_323 : decode cX7_init 323 = .ok (.iconst 3, 1) := dk_6 (dk_at dksX7_init_13 14 rfl rfl)
theorem dX7_init_324 : decode cX7_init 324 = .ok (.bipush 115, 2) := dk_16 115 (dk_at dksX7_init_13 15 rfl rfl)
theorem dX7_init_326 : decode cX7_init 326 = .ok (.iastore, 1) := dk_79 (dk_at dksX7_init_13 17 rfl rfl)
theorem dX7_init_327 : decode cX7_init 327 = .ok (.dup, 1) := dk_89 (dk_at dksX7_init_13 18 rfl rfl)
theorem dX7_init_328 : decode cX7_init 328 = .ok (.iconst 4, 1) := dk_7 (dk_at dksX7_init_13 19 rfl rfl)
theorem dX7_init_329 : decode cX7_init 329 = .ok (.bipush 32, 2) := dk_16 32 (dk_at dksX7_init_13 20 rfl rfl)
theorem dX7_init_331 : decode cX7_init 331 = .ok (.iastore, 1) := dk_79 (dk_at dksX7_init_13 22 rfl rfl)
theorem dX7_init_332 : decode cX7_init 332 = .ok (.dup, 1) := dk_89 (dk_at dksX7_init_13 23 rfl rfl)
theorem dX7_init_333 : decode cX7_init 333 = .ok (.iconst 5, 1) := dk_8 (dk_at dksX7_init_14 0 rfl rfl)
theorem dX7_init_334 : decode cX7_init 334 = .ok (.bipush 32, 2) := dk_16 32 (dk_at dksX7_init_14 1 rfl rfl)
theorem dX7_init_336 : decode cX7_init 336 = .ok (.iastore, 1) := dk_79 (dk_at dksX7_init_14 3 rfl rfl)
theorem dX7_init_337 : decode cX7_init 337 = .ok (.dup, 1) := dk_89 (dk_at dksX7_init_14 4 rfl rfl)
theorem dX7_init_338 : decode cX7_init 338 = .ok (.bipush 6, 2) := dk_16 6 (dk_at dksX7_init_14 5 rfl rfl)
theorem dX7_init_340 : decode cX7_init 340 = .ok (.bipush 32, 2) := dk_16 32 (dk_at dksX7_init_14 7 rfl rfl)
theorem dX7_init_342 : decode cX7_init 342 = .ok (.iastore, 1) := dk_79 (dk_at dksX7_init_14 9 rfl rfl)
theorem dX7_init_343 : decode cX7_init 343 = .ok (.dup, 1) := dk_89 (dk_at dksX7_init_14 10 rfl rfl)
theorem dX7_init_344 : decode cX7_init 344 = .ok (.bipush 7, 2) := dk_16 7 (dk_at dksX7_init_14 11 rfl rfl)
theorem dX7_init_346 : decode cX7_init 346 = .ok (.bipush 32, 2) := dk_16 32 (dk_at dksX7_init_14 13 rfl rfl)
theorem dX7_init_348 : decode cX7_init 348 = .ok (.iastore, 1) := dk_79 (dk_at dksX7_init_14 15 rfl rfl)
theorem dX7_init_349 : decode cX7_init 349 = .ok (.dup, 1) := dk_89 (dk_at dksX7_init_14 16 rfl rfl)
theorem dX7_init_350 : decode cX7_init 350 = .ok (.bipush 8, 2) := dk_16 8 (dk_at dksX7_init_14 17 rfl rfl)
theorem dX7_init_352 : decode cX7_init 352 = .ok (.bipush 108, 2) := dk_16 108 (dk_at dksX7_init_14 19 rfl rfl)
theorem dX7_init_354 : decode cX7_init 354 = .ok (.iastore, 1) := dk_79 (dk_at dksX7_init_14 21 rfl rfl)
theorem dX7_init_355 : decode cX7_init 355 = .ok (.dup, 1) := dk_89 (dk_at dksX7_init_14 22 rfl rfl)
theorem dX7_init_356 : decode cX7_init 356 = .ok (.bipush 9, 2) := dk_16 9 (dk_at dksX7_init_15 0 rfl rfl)
theorem dX7_init_358 : decode cX7_init 358 = .ok (.bipush 117, 2) := dk_16 117 (dk_at dksX7_init_15 2 rfl rfl)
theorem dX7_init_360 : decode cX7_init 360 = .ok (.iastore, 1) := dk_79 (dk_at dksX7_init_15 4 rfl rfl)
theorem dX7_init_361 : decode cX7_init 361 = .ok (.dup, 1) := dk_89 (dk_at dksX7_init_15 5 rfl rfl)
theorem dX7_init_362 : decode cX7_init 362 = .ok (.bipush 10, 2) := dk_16 10 (dk_at dksX7_init_15 6 rfl rfl)
theorem dX7_init_364 : decode cX7_init 364 = .ok (.bipush 99, 2) := dk_16 99 (dk_at dksX7_init_15 8 rfl rfl)
theorem dX7_init_366 : decode cX7_init 366 = .ok (.iastore, 1) := dk_79 (dk_at dksX7_init_15 10 rfl rfl)
theorem dX7_init_367 : decode cX7_init 367 = .ok (.dup, 1) := dk_89 (dk_at dksX7_init_15 11 rfl rfl)
theorem dX7_init_368 : decode cX7_init 368 = .ok (.bipush 11, 2) := dk_16 11 (dk_at dksX7_init_15 12 rfl rfl)
theorem dX7_init_370 : decode cX7_init 370 = .ok (.bipush 107, 2) := dk_16 107 (dk_at dksX7_init_15 14 rfl rfl)
theorem dX7_init_372 : decode cX7_init 372 = .ok (.iastore, 1) := dk_79 (dk_at dksX7_init_15 16 rfl rfl)
theorem dX7_init_373 : decode cX7_init 373 = .ok (.dup, 1) := dk_89 (dk_at dksX7_init_15 17 rfl rfl)
theorem dX7_init_374 : decode cX7_init 374 = .ok (.bipush 12, 2) := dk_16 12 (dk_at dksX7_init_15 18 rfl rfl)
theorem dX7_init_376 : decode cX7_init 376 = .ok (.bipush 115, 2) := dk_16 115 (dk_at dksX7_init_15 20 rfl rfl)
theorem dX7_init_378 : decode cX7_init 378 = .ok (.iastore, 1) := dk_79 (dk_at dksX7_init_15 22 rfl rfl)
theorem dX7_init_379 : decode cX7_init 379 = .ok (.dup, 1) := dk_89 (dk_at dksX7_init_15 23 rfl rfl)
theorem dX7_init_380 : decode cX7_init 380 = .ok (.bipush 13, 2) := dk_16 13 (dk_at dksX7_init_16 0 rfl rfl)
theorem dX7_init_382 : decode cX7_init 382 = .ok (.bipush 32, 2) := dk_16 32 (dk_at dksX7_init_16 2 rfl rfl)
theorem dX7_init_384 : decode cX7_init 384 = .ok (.iastore, 1) := dk_79 (dk_at dksX7_init_16 4 rfl rfl)
theorem dX7_init_385 : decode cX7_init 385 = .ok (.dup, 1) := dk_89 (dk_at dksX7_init_16 5 rfl rfl)
theorem dX7_init_386 : decode cX7_init 386 = .ok (.bipush 14, 2) := dk_16 14 (dk_at dksX7_init_16 6 rfl rfl)
theorem dX7_init_388 : decode cX7_init 388 = .ok (.bipush 32, 2) := dk_16 32 (dk_at dksX7_init_16 8 rfl rfl)
theorem dX7_init_390 : decode cX7_init 390 = .ok (.iastore, 1) := dk_79 (dk_at dksX7_init_16 10 rfl rfl)
theorem dX7_init_391 : decode cX7_init 391 = .ok (.dup, 1) := dk_89 (dk_at dksX7_init_16 11 rfl rfl)
theorem dX7_init_392 : decode cX7_init 392 = .ok (.bipush 15, 2) := dk_16 15 (dk_at dksX7_init_16 12 rfl rfl)
theorem dX7_init_394 : decode cX7_init 394 = .ok (.bipush 32, 2) := dk_16 32 (dk_at dksX7_init_16 14 rfl rfl)
theorem dX7_init_396 : decode cX7_init 396 = .ok (.iastore, 1) := dk_79 (dk_at dksX7_init_16 16 rfl rfl)
theorem dX7_init_397 : decode cX7_init 397 = .ok (.dup, 1) := dk_89 (dk_at dksX7_init_16 17 rfl rfl)
theorem dX7_init_398 : decode cX7_init 398 = .ok (.bipush 16, 2) := dk_16 16 (dk_at dksX7_init_16 18 rfl rfl)
theorem dX7_init_400 : decode cX7_init 400 = .ok (.bipush 116, 2) := dk_16 116 (dk_at dksX7_init_16 20 rfl rfl)
theorem dX7_init_402 : decode cX7_init 402 = .ok (.iastore, 1) := dk_79 (dk_at dksX7_init_16 22 rfl rfl)
theorem dX7_init_403 : decode cX7_init 403 = .ok (.dup, 1) := dk_89 (dk_at dksX7_init_16 23 rfl rfl)
theorem dX7_init_404 : decode cX7_init 404 = .ok (.bipush 17, 2) := dk_16 17 (dk_at dksX7_init_17 0 rfl rfl)
theorem dX7_init_406 : decode cX7_init 406 = .ok (.bipush 97, 2) := dk_16 97 (dk_at dksX7_init_17 2 rfl rfl)
theorem dX7_init_408 : decode cX7_init 408 = .ok (.iastore, 1) := dk_79 (dk_at dksX7_init_17 4 rfl rfl)
theorem dX7_init_409 : decode cX7_init 409 = .ok (.dup, 1) := dk_89 (dk_at dksX7_init_17 5 rfl rfl)
theorem dX7_init_410 : decode cX7_init 410 = .ok (.bipush 18, 2) := dk_16 18 (dk_at dksX7_init_17 6 rfl rfl)
theorem dX7_init_412 : decode cX7_init 412 = .ok (.bipush 107, 2) := dk_16 107 (dk_at dksX7_init_17 8 rfl rfl)
theorem dX7_init_414 : decode cX7_init 414 = .ok (.iastore, 1) := dk_79 (dk_at dksX7_init_17 10 rfl rfl)
theorem dX7_init_415 : decode cX7_init 415 = .ok (.dup, 1) := dk_89 (dk_at dksX7_init_17 11 rfl rfl)
theorem dX7_init_416 : decode cX7_init 416 = .ok (.bipush 19, 2) := dk_16 19 (dk_at dksX7_init_17 12 rfl rfl)
theorem dX7_init_418 : decode cX7_init 418 = .ok (.bipush 101, 2) := dk_16 101 (dk_at dksX7_init_17 14 rfl rfl)
theorem dX7_init_420 : decode cX7_init 420 = .ok (.iastore, 1) := dk_79 (dk_at dksX7_init_17 16 rfl rfl)
theorem dX7_init_421 : decode cX7_init 421 = .ok (.dup, 1) := dk_89 (dk_at dksX7_init_17 17 rfl rfl)
theorem dX7_init_422 : decode cX7_init 422 = .ok (.bipush 20, 2) := dk_16 20 (dk_at dksX7_init_17 18 rfl rfl)
theorem dX7_init_424 : decode cX7_init 424 = .ok (.bipush 115, 2) := dk_16 115 (dk_at dksX7_init_17 20 rfl rfl)
theorem dX7_init_426 : decode cX7_init 426 = .ok (.iastore, 1) := dk_79 (dk_at dksX7_init_17 22 rfl rfl)
theorem dX7_init_427 : decode cX7_init 427 = .ok (.dup, 1) := dk_89 (dk_at dksX7_init_17 23 rfl rfl)
theorem dX7_init_428 : decode cX7_init 428 = .ok (.bipush 21, 2) := dk_16 21 (dk_at dksX7_init_18 0 rfl rfl)
theorem dX7_init_430 : decode cX7_init 430 = .ok (.bipush 32, 2) := dk_16 32 (dk_at dksX7_init_18 2 rfl rfl)
theorem dX7_init_432 : decode cX7_init 432 = .ok (.iastore, 1) := dk_79 (dk_at dksX7_init_18 4 rfl rfl)
theorem dX7_init_433 : decode cX7_init 433 = .ok (.dup, 1) := dk_89 (dk_at dksX7_init_18 5 rfl rfl)
theorem dX7_init_434 : decode cX7_init 434 = .ok (.bipush 22, 2) := dk_16 22 (dk_at dksX7_init_18 6 rfl rfl)
theorem dX7_init_436 : decode cX7_init 436 = .ok (.bipush 32, 2) := dk_16 32 (dk_at dksX7_init_18 8 rfl rfl)
theorem dX7_init_438 : decode cX7_init 438 = .ok (.iastore, 1) := dk_79 (dk_at dksX7_init_18 10 rfl rfl)
theorem dX7_init_439 : decode cX7_init 439 = .ok (.dup, 1) := dk_89 (dk_at dksX7_init_18 11 rfl rfl)
theorem dX7_init_440 : decode cX7_init 440 = .ok (.bipush 23, 2) := dk_16 23 (dk_at dksX7_init_18 12 rfl rfl)
theorem dX7_init_442 : decode cX7_init 442 = .ok (.bipush 32, 2) := dk_16 32 (dk_at dksX7_init_18 14 rfl rfl)
theorem dX7_init_444 : decode cX7_init 444 = .ok (.iastore, 1) := dk_79 (dk_at dksX7_init_18 16 rfl rfl)
theorem dX7_init_445 : decode cX7_init 445 = .ok (.dup, 1) := dk_89 (dk_at dksX7_init_18 17 rfl rfl)
theorem dX7_init_446 : decode cX7_init 446 = .ok (.bipush 24, 2) := dk_16 24 (dk_at dksX7_init_18 18 rfl rfl)
theorem dX7_init_448 : decode cX7_init 448 = .ok (.bipush 116, 2) := dk_16 116 (dk_at dksX7_init_18 20 rfl rfl)
theorem dX7_init_450 : decode cX7_init 450 = .ok (.iastore, 1) := dk_79 (dk_at dksX7_init_18 22 rfl rfl)
theorem dX7_init_451 : decode cX7_init 451 = .ok (.dup, 1) := dk_89 (dk_at dksX7_init_18 23 rfl rfl)
theorem dX7_init_452 : decode cX7_init 452 = .ok (.bipush 25, 2) := dk_16 25 (dk_at dksX7_init_19 0 rfl rfl)
theorem dX7_init_454 : decode cX7_init 454 = .ok (.bipush 104, 2) := dk_16 104 (dk_at dksX7_init_19 2 rfl rfl)
theorem dX7_init_456 : decode cX7_init 456 = .ok (.iastore, 1) := dk_79 (dk_at dksX7_init_19 4 rfl rfl)
theorem dX7_init_457 : decode cX7_init 457 = .ok (.dup, 1) := dk_89 (dk_at dksX7_init_19 5 rfl rfl)
theorem dX7_init_458 : decode cX7_init 458 = .ok (.bipush 26, 2) := dk_16 26 (dk_at dksX7_init_19 6 rfl rfl)
theorem dX7_init_460 : decode cX7_init 460 = .ok (.bipush 105, 2) := dk_16 105 (dk_at dksX7_init_19 8 rfl rfl)
theorem dX7_init_462 : decode cX7_init 462 = .ok (.iastore, 1) := dk_79 (dk_at dksX7_init_19 10 rfl rfl)
theorem dX7_init_463 : decode cX7_init 463 = .ok (.dup, 1) := dk_89 (dk_at dksX7_init_19 11 rfl rfl)
theorem dX7_init_464 : decode cX7_init 464 = .ok (.bipush 27, 2) := dk_16 27 (dk_at dksX7_init_19 12 rfl rfl)
theorem dX7_init_466 : decode cX7_init 466 = .ok (.bipush 110, 2) := dk_16 110 (dk_at dksX7_init_19 14 rfl rfl)
theorem dX7_init_468 : decode cX7_init 468 = .ok (.iastore, 1) := dk_79 (dk_at dksX7_init_19 16 rfl rfl)
theorem dX7_init_469 : decode cX7_init 469 = .ok (.dup, 1) := dk_89 (dk_at dksX7_init_19 17 rfl rfl)
theorem dX7_init_470 : decode cX7_init 470 = .ok (.bipush 28, 2) := dk_16 28 (dk_at dksX7_init_19 18 rfl rfl)
theorem dX7_init_472 : decode cX7_init 472 = .ok (.bipush 103, 2) := dk_16 103 (dk_at dksX7_init_19 20 rfl rfl)
theorem dX7_init_474 : decode cX7_init 474 = .ok (.iastore, 1) := dk_79 (dk_at dksX7_init_19 22 rfl rfl)
theorem dX7_init_475 : decode cX7_init 475 = .ok (.dup, 1) := dk_89 (dk_at dksX7_init_19 23 rfl rfl)
theorem dX7_init_476 : decode cX7_init 476 = .ok (.bipush 29, 2) := dk_16 29 (dk_at dksX7_init_20 0 rfl rfl)
theorem dX7_init_478 : decode cX7_init 478 = .ok (.bipush 32, 2) := dk_16 32 (dk_at dksX7_init_20 2 rfl rfl)
theorem dX7_init_480 : decode cX7_init 480 = .ok (.iastore, 1) := dk_79 (dk_at dksX7_init_20 4 rfl rfl)
theorem dX7_init_481 : decode cX7_init 481 = .ok (.dup, 1) := dk_89 (dk_at dksX7_init_20 5 rfl rfl)
theorem dX7_init_482 : decode cX7_init 482 = .ok (.bipush 30, 2) := dk_16 30 (dk_at dksX7_init_20 6 rfl rfl)
theorem dX7_init_484 : decode cX7_init 484 = .ok (.bipush 32, 2) := dk_16 32 (dk_at dksX7_init_20 8 rfl rfl)
theorem dX7_init_486 : decode cX7_init 486 = .ok (.iastore, 1) := dk_79 (dk_at dksX7_init_20 10 rfl rfl)
theorem dX7_init_487 : decode cX7_init 487 = .ok (.dup, 1) := dk_89 (dk_at dksX7_init_20 11 rfl rfl)
theorem dX7_init_488 : decode cX7_init 488 = .ok (.bipush 31, 2) := dk_16 31 (dk_at dksX7_init_20 12 rfl rfl)
theorem dX7_init_490 : decode cX7_init 490 = .ok (.bipush 32, 2) := dk_16 32 (dk_at dksX7_init_20 14 rfl rfl)
theorem dX7_init_492 : decode cX7_init 492 = .ok (.iastore, 1) := dk_79 (dk_at dksX7_init_20 16 rfl rfl)
theorem dX7_init_493 : decode cX7_init 493 = .ok (.dup, 1) := dk_89 (dk_at dksX7_init_20 17 rfl rfl)
theorem dX7_init_494 : decode cX7_init 494 = .ok (.bipush 32, 2) := dk_16 32 (dk_at dksX7_init_20 18 rfl rfl)
theorem dX7_init_496 : decode cX7_init 496 = .ok (.bipush 107, 2) := dk_16 107 (dk_at dksX7_init_20 20 rfl rfl)
theorem dX7_init_498 : decode cX7_init 498 = .ok (.iastore, 1) := dk_79 (dk_at dksX7_init_20 22 rfl rfl)
theorem dX7_init_499 : decode cX7_init 499 = .ok (.dup, 1) := dk_89 (dk_at dksX7_init_20 23 rfl rfl)
theorem dX7_init_500 : decode cX7_init 500 = .ok (.bipush 33, 2) := dk_16 33 (dk_at dksX7_init_21 0 rfl rfl)
theorem dX7_init_502 : decode cX7_init 502 = .ok (.bipush 110, 2) := dk_16 110 (dk_at dksX7_init_21 2 rfl rfl)
theorem dX7_init_504 : decode cX7_init 504 = .ok (.iastore, 1) := dk_79 (dk_at dksX7_init_21 4 rfl rfl)
theorem dX7_init_505 : decode cX7_init 505 = .ok (.dup, 1) := dk_89 (dk_at dksX7_init_21 5 rfl rfl)
theorem dX7_init_506 : decode cX7_init 506 = .ok (.bipush 34, 2) := dk_16 34 (dk_at dksX7_init_21 6 rfl rfl)
theorem dX7_init_508 : decode cX7_init 508 = .ok (.bipush 111, 2) := dk_16 111 (dk_at dksX7_init_21 8 rfl rfl)
theorem dX7_init_510 : decode cX7_init 510 = .ok (.iastore, 1) := dk_79 (dk_at dksX7_init_21 10 rfl rfl)
theorem dX7_init_511 : decode cX7_init 511 = .ok (.dup, 1) := dk_89 (dk_at dksX7_init_21 11 rfl rfl)
theorem dX7_init_512 : decode cX7_init 512 = .ok (.bipush 35, 2) := dk_16 35 (dk_at dksX7_init_21 12 rfl rfl)
theorem dX7_init_514 : decode cX7_init 514 = .ok (.bipush 119, 2) := dk_16 119 (dk_at dksX7_init_21 14 rfl rfl)
theorem dX7_init_516 : decode cX7_init 516 = .ok (.iastore, 1) := dk_79 (dk_at dksX7_init_21 16 rfl rfl)
theorem dX7_init_517 : decode cX7_init 517 = .ok (.dup, 1) := dk_89 (dk_at dksX7_init_21 17 rfl rfl)
theorem dX7_init_518 : decode cX7_init 518 = .ok (.bipush 36, 2) := dk_16 36 (dk_at dksX7_init_21 18 rfl rfl)
theorem dX7_init_520 : decode cX7_init 520 = .ok (.bipush 110, 2) := dk_16 110 (dk_at dksX7_init_21 20 rfl rfl)
theorem dX7_init_522 : decode cX7_init 522 = .ok (.iastore, 1) := dk_79 (dk_at dksX7_init_21 22 rfl rfl)
theorem dX7_init_523 : decode cX7_init 523 = .ok (.dup, 1) := dk_89 (dk_at dksX7_init_21 23 rfl rfl)
theorem dX7_init_524 : decode cX7_init 524 = .ok (.bipush 37, 2) := dk_16 37 (dk_at dksX7_init_22 0 rfl rfl)
theorem dX7_init_526 : decode cX7_init 526 = .ok (.bipush 32, 2) := dk_16 32 (dk_at dksX7_init_22 2 rfl rfl)
theorem dX7_init_528 : decode cX7_init 528 = .ok (.iastore, 1) := dk_79 (dk_at dksX7_init_22 4 rfl rfl)
theorem dX7_init_529 : decode cX7_init 529 = .ok (.dup, 1) := dk_89 (dk_at dksX7_init_22 5 rfl rfl)
theorem dX7_init_530 : decode cX7_init 530 = .ok (.bipush 38, 2) := dk_16 38 (dk_at dksX7_init_22 6 rfl rfl)
theorem dX7_init_532 : decode cX7_init 532 = .ok (.bipush 32, 2) := dk_16 32 (dk_at dksX7_init_22 8 rfl rfl)
theorem dX7_init_534 : decode cX7_init 534 = .ok (.iastore, 1) := dk_79 (dk_at dksX7_init_22 10 rfl rfl)
theorem dX7_init_535 : decode cX7_init 535 = .ok (.dup, 1) := dk_89 (dk_at dksX7_init_22 11 rfl rfl)
theorem dX7_init_536 : decode cX7_init 536 = .ok (.bipush 39, 2) := dk_16 39 (dk_at dksX7_init_22 12 rfl rfl)
theorem dX7_init_538 : decode cX7_init 538 = .ok (.bipush 32, 2) := dk_16 32 (dk_at dksX7_init_22 14 rfl rfl)
theorem dX7_init_540 : decode cX7_init 540 = .ok (.iastore, 1) := dk_79 (dk_at dksX7_init_22 16 rfl rfl)
theorem dX7_init_541 : decode cX7_init 541 = .ok (.dup, 1) := dk_89 (dk_at dksX7_init_22 17 rfl rfl)
theorem dX7_init_542 : decode cX7_init 542 = .ok (.bipush 40, 2) := dk_16 40 (dk_at dksX7_init_22 18 rfl rfl)
theorem dX7_init_544 : decode cX7_init 544 = .ok (.bipush 107, 2) := dk_16 107 (dk_at dksX7_init_22 20 rfl rfl)
theorem dX7_init_546 : decode cX7_init 546 = .ok (.iastore, 1) := dk_79 (dk_at dksX7_init_22 22 rfl rfl)
theorem dX7_init_547 : decode cX7_init 547 = .ok (.dup, 1) := dk_89 (dk_at dksX7_init_22 23 rfl rfl)
theorem dX7_init_548 : decode cX7_init 548 = .ok (.bipush 41, 2) := dk_16 41 (dk_at dksX7_init_23 0 rfl rfl)
theorem dX7_init_550 : decode cX7_init 550 = .ok (.bipush 101, 2) := dk_16 101 (dk_at dksX7_init_23 2 rfl rfl)
theorem dX7_init_552 : decode cX7_init 552 = .ok (.iastore, 1) := dk_79 (dk_at dksX7_init_23 4 rfl rfl)
theorem dX7_init_553 : decode cX7_init 553 = .ok (.dup, 1) := dk_89 (dk_at dksX7_init_23 5 rfl rfl)
theorem dX7_init_554 : decode cX7_init 554 = .ok (.bipush 42, 2) := dk_16 42 (dk_at dksX7_init_23 6 rfl rfl)
theorem dX7_init_556 : decode cX7_init 556 = .ok (.bipush 112, 2) := dk_16 112 (dk_at dksX7_init_23 8 rfl rfl)
theorem dX7_init_558 : decode cX7_init 558 = .ok (.iastore, 1) := dk_79 (dk_at dksX7_init_23 10 rfl rfl)
theorem dX7_init_559 : decode cX7_init 559 = .ok (.dup, 1) := dk_89 (dk_at dksX7_init_23 11 rfl rfl)
theorem dX7_init_560 : decode cX7_init 560 = .ok (.bipush 43, 2) := dk_16 43 (dk_at dksX7_init_23 12 rfl rfl)
theorem dX7_init_562 : decode cX7_init 562 = .ok (.bipush 116, 2) := dk_16 116 (dk_at dksX7_init_23 14 rfl rfl)
theorem dX7_init_564 : decode cX7_init 564 = .ok (.iastore, 1) := dk_79 (dk_at dksX7_init_23 16 rfl rfl)
theorem dX7_init_565 : decode cX7_init 565 = .ok (.dup, 1) := dk_89 (dk_at dksX7_init_23 17 rfl rfl)
theorem dX7_init_566 : decode cX7_init 566 = .ok (.bipush 44, 2) := dk_16 44 (dk_at dksX7_init_23 18 rfl rfl)
theorem dX7_init_568 : decode cX7_init 568 = .ok (.bipush 32, 2) := dk_16 32 (dk_at dksX7_init_23 20 rfl rfl)
theorem dX7_init_570 : decode cX7_init 570 = .ok (.iastore, 1) := dk_79 (dk_at dksX7_init_23 22 rfl rfl)
theorem dX7_init_571 : decode cX7_init 571 = .ok (.dup, 1) := dk_89 (dk_at dksX7_init_23 23 rfl rfl)
theorem dX7_init_572 : decode cX7_init 572 = .ok (.bipush 45, 2) := dk_16 45 (dk_at dksX7_init_24 0 rfl rfl)
theorem dX7_init_574 : decode cX7_init 574 = .ok (.bipush 32, 2) := dk_16 32 (dk_at dksX7_init_24 2 rfl rfl)
theorem dX7_init_576 : decode cX7_init 576 = .ok (.iastore, 1) := dk_79 (dk_at dksX7_init_24 4 rfl rfl)
theorem dX7_init_577 : decode cX7_init 577 = .ok (.dup, 1) := dk_89 (dk_at dksX7_init_24 5 rfl rfl)
theorem dX7_init_578 : decode cX7_init 578 = .ok (.bipush 46, 2) := dk_16 46 (dk_at dksX7_init_24 6 rfl rfl)
theorem dX7_init_580 : decode cX7_init 580 = .ok (.bipush 32, 2) := dk_16 32 (dk_at dksX7_init_24 8 rfl rfl)
theorem dX7_init_582 : decode cX7_init 582 = .ok (.iastore, 1) := dk_79 (dk_at dksX7_init_24 10 rfl rfl)
theorem dX7_init_583 : decode cX7_init 583 = .ok (.dup, 1) := dk_89 (dk_at dksX7_init_24 11 rfl rfl)
theorem dX7_init_584 : decode cX7_init 584 = .ok (.bipush 47, 2) := dk_16 47 (dk_at dksX7_init_24 12 rfl rfl)
theorem dX7_init_586 : decode cX7_init 586 = .ok (.bipush 32, 2) := dk_16 32 (dk_at dksX7_init_24 14 rfl rfl)
theorem dX7_init_588 : decode cX7_init 588 = .ok (.iastore, 1) := dk_79 (dk_at dksX7_init_24 16 rfl rfl)
theorem dX7_init_589 : decode cX7_init 589 = .ok (.dup, 1) := dk_89 (dk_at dksX7_init_24 17 rfl rfl)
theorem dX7_init_590 : decode cX7_init 590 = .ok (.bipush 48, 2) := dk_16 48 (dk_at dksX7_init_24 18 rfl rfl)
theorem dX7_init_592 : decode cX7_init 592 = .ok (.bipush 116, 2) := dk_16 116 (dk_at dksX7_init_24 20 rfl rfl)
theorem dX7_init_594 : decode cX7_init 594 = .ok (.iastore, 1) := dk_79 (dk_at dksX7_init_24 22 rfl rfl)
theorem dX7_init_595 : decode cX7_init 595 = .ok (.dup, 1) := dk_89 (dk_at dksX7_init_24 23 rfl rfl)
theorem dX7_init_596 : decode cX7_init 596 = .ok (.bipush 49, 2) := dk_16 49 (dk_at dksX7_init_25 0 rfl rfl)
theorem dX7_init_598 : decode cX7_init 598 = .ok (.bipush 105, 2) := dk_16 105 (dk_at dksX7_init_25 2 rfl rfl)
theorem dX7_init_600 : decode cX7_init 600 = .ok (.iastore, 1) := dk_79 (dk_at dksX7_init_25 4 rfl rfl)
theorem dX7_init_601 : decode cX7_init 601 = .ok (.dup, 1) := dk_89 (dk_at dksX7_init_25 5 rfl rfl)
theorem dX7_init_602 : decode cX7_init 602 = .ok (.bipush 50, 2) := dk_16 50 (dk_at dksX7_init_25 6 rfl rfl)
theorem dX7_init_604 : decode cX7_init 604 = .ok (.bipush 100, 2) := dk_16 100 (dk_at dksX7_init_25 8 rfl rfl)
theorem dX7_init_606 : decode cX7_init 606 = .ok (.iastore, 1) := dk_79 (dk_at dksX7_init_25 10 rfl rfl)
theorem dX7_init_607 : decode cX7_init 607 = .ok (.dup, 1) := dk_89 (dk_at dksX7_init_25 11 rfl rfl)
theorem dX7_init_608 : decode cX7_init 608 = .ok (.bipush 51, 2) := dk_16 51 (dk_at dksX7_init_25 12 rfl rfl)
theorem dX7_init_610 : decode cX7_init 610 = .ok (.bipush 101, 2) := dk_16 101 (dk_at dksX7_init_25 14 rfl rfl)
theorem dX7_init_612 : decode cX7_init 612 = .ok (.iastore, 1) := dk_79 (dk_at dksX7_init_25 16 rfl rfl)
theorem dX7_init_613 : decode cX7_init 613 = .ok (.dup, 1) := dk_89 (dk_at dksX7_init_25 17 rfl rfl)
theorem dX7_init_614 : decode cX7_init 614 = .ok (.bipush 52, 2) := dk_16 52 (dk_at dksX7_init_25 18 rfl rfl)
theorem dX7_init_616 : decode cX7_init 616 = .ok (.bipush 32, 2) := dk_16 32 (dk_at dksX7_init_25 20 rfl rfl)
theorem dX7_init_618 : decode cX7_init 618 = .ok (.iastore, 1) := dk_79 (dk_at dksX7_init_25 22 rfl rfl)
theorem dX7_init_619 : decode cX7_init 619 = .ok (.dup, 1) := dk_89 (dk_at dksX7_init_25 23 rfl rfl)
theorem dX7_init_620 : decode cX7_init 620 = .ok (.bipush 53, 2) := dk_16 53 (dk_at dksX7_init_26 0 rfl rfl)
theorem dX7_init_622 : decode cX7_init 622 = .ok (.bipush 32, 2) := dk_16 32 (dk_at dksX7_init_26 2 rfl rfl)
theorem dX7_init_624 : decode cX7_init 624 = .ok (.iastore, 1) := dk_79 (dk_at dksX7_init_26 4 rfl rfl)
theorem dX7_init_625 : decode cX7_init 625 = .ok (.dup, 1) := dk_89 (dk_at dksX7_init_26 5 rfl rfl)
theorem dX7_init_626 : decode cX7_init 626 = .ok (.bipush 54, 2) := dk_16 54 (dk_at dksX7_init_26 6 rfl rfl)
theorem dX7_init_628 : decode cX7_init 628 = .ok (.bipush 32, 2) := dk_16 32 (dk_at dksX7_init_26 8 rfl rfl)
theorem dX7_init_630 : decode cX7_init 630 = .ok (.iastore, 1) := dk_79 (dk_at dksX7_init_26 10 rfl rfl)
theorem dX7_init_631 : decode cX7_init 631 = .ok (.dup, 1) := dk_89 (dk_at dksX7_init_26 11 rfl rfl)
theorem dX7_init_632 : decode cX7_init 632 = .ok (.bipush 55, 2) := dk_16 55 (dk_at dksX7_init_26 12 rfl rfl)
theorem dX7_init_634 : decode cX7_init 634 = .ok (.bipush 32, 2) := dk_16 32 (dk_at dksX7_init_26 14 rfl rfl)
theorem dX7_init_636 : decode cX7_init 636 = .ok (.iastore, 1) := dk_79 (dk_at dksX7_init_26 16 rfl rfl)
theorem dX7_init_637 : decode cX7_init 637 = .ok (.dup, 1) := dk_89 (dk_at dksX7_init_26 17 rfl rfl)
theorem dX7_init_638 : decode cX7_init 638 = .ok (.bipush 56, 2) := dk_16 56 (dk_at dksX7_init_26 18 rfl rfl)
theorem dX7_init_640 : decode cX7_init 640 = .ok (.bipush 108, 2) := dk_16 108 (dk_at dksX7_init_26 20 rfl rfl)
theorem dX7_init_642 : decode cX7_init 642 = .ok (.iastore, 1) := dk_79 (dk_at dksX7_init_26 22 rfl rfl)
theorem dX7_init_643 : decode cX7_init 643 = .ok (.dup, 1) := dk_89 (dk_at dksX7_init_26 23 rfl rfl)
theorem dX7_init_644 : decode cX7_init 644 = .ok (.bipush 57, 2) := dk_16 57 (dk_at dksX7_init_27 0 rfl rfl)
theorem dX7_init_646 : decode cX7_init 646 = .ok (.bipush 117, 2) := dk_16 117 (dk_at dksX7_init_27 2 rfl rfl)
theorem dX7_init_648 : decode cX7_init 648 = .ok (.iastore, 1) := dk_79 (dk_at dksX7_init_27 4 rfl rfl)
theorem dX7_init_649 : decode cX7_init 649 = .ok (.dup, 1) := dk_89 (dk_at dksX7_init_27 5 rfl rfl)
theorem dX7_init_650 : decode cX7_init 650 = .ok (.bipush 58, 2) := dk_16 58 (dk_at dksX7_init_27 6 rfl rfl)
theorem dX7_init_652 : decode cX7_init 652 = .ok (.bipush 99, 2) := dk_16 99 (dk_at dksX7_init_27 8 rfl rfl)
theorem dX7_init_654 : decode cX7_init 654 = .ok (.iastore, 1) := dk_79 (dk_at dksX7_init_27 10 rfl rfl)
theorem dX7_init_655 : decode cX7_init 655 = .ok (.dup, 1) := dk_89 (dk_at dksX7_init_27 11 rfl rfl)
theorem dX7_init_656 : decode cX7_init 656 = .ok (.bipush 59, 2) := dk_16 59 (dk_at dksX7_init_27 12 rfl rfl)
theorem dX7_init_658 : decode cX7_init 658 = .ok (.bipush 107, 2) := dk_16 107 (dk_at dksX7_init_27 14 rfl rfl)
theorem dX7_init_660 : decode cX7_init 660 = .ok (.iastore, 1) := dk_79 (dk_at dksX7_init_27 16 rfl rfl)
theorem dX7_init_661 : decode cX7_init 661 = .ok (.dup, 1) := dk_89 (dk_at dksX7_init_27 17 rfl rfl)
theorem dX7_init_662 : decode cX7_init 662 = .ok (.bipush 60, 2) := dk_16 60 (dk_at dksX7_init_27 18 rfl rfl)
theorem dX7_init_664 : decode cX7_init 664 = .ok (.bipush 32, 2) := dk_16 32 (dk_at dksX7_init_27 20 rfl rfl)
theorem dX7_init_666 : decode cX7_init 666 = .ok (.iastore, 1) := dk_79 (dk_at dksX7_init_27 22 rfl rfl)
theorem dX7_init_667 : decode cX7_init 667 = .ok (.dup, 1) := dk_89 (dk_at dksX7_init_27 23 rfl rfl)
theorem dX7_init_668 : decode cX7_init 668 = .ok (.bipush 61, 2) := dk_16 61 (dk_at dksX7_init_28 0 rfl rfl)
theorem dX7_init_670 : decode cX7_init 670 = .ok (.bipush 32, 2) := dk_16 32 (dk_at dksX7_init_28 2 rfl rfl)
theorem dX7_init_672 : decode cX7_init 672 = .ok (.iastore, 1) := dk_79 (dk_at dksX7_init_28 4 rfl rfl)
theorem dX7_init_673 : decode cX7_init 673 = .ok (.dup, 1) := dk_89 (dk_at dksX7_init_28 5 rfl rfl)
theorem dX7_init_674 : decode cX7_init 674 = .ok (.bipush 62, 2) := dk_16 62 (dk_at dksX7_init_28 6 rfl rfl)
theorem dX7_init_676 : decode cX7_init 676 = .ok (.bipush 32, 2) := dk_16 32 (dk_at dksX7_init_28 8 rfl rfl)
theorem dX7_init_678 : decode cX7_init 678 = .ok (.iastore, 1) := dk_79 (dk_at dksX7_init_28 10 rfl rfl)
theorem dX7_init_679 : decode cX7_init 679 = .ok (.dup, 1) := dk_89 (dk_at dksX7_init_28 11 rfl rfl)
theorem dX7_init_680 : decode cX7_init 680 = .ok (.bipush 63, 2) := dk_16 63 (dk_at dksX7_init_28 12 rfl rfl)
theorem dX7_init_682 : decode cX7_init 682 = .ok (.bipush 32, 2) := dk_16 32 (dk_at dksX7_init_28 14 rfl rfl)
theorem dX7_init_684 : decode cX7_init 684 = .ok (.iastore, 1) := dk_79 (dk_at dksX7_init_28 16 rfl rfl)
theorem dX7_init_685 : decode cX7_init 685 = .ok (.dup, 1) := dk_89 (dk_at dksX7_init_28 17 rfl rfl)
theorem dX7_init_686 : decode cX7_init 686 = .ok (.bipush 64, 2) := dk_16 64 (dk_at dksX7_init_28 18 rfl rfl)
theorem dX7_init_688 : decode cX7_init 688 = .ok (.bipush 109, 2) := dk_16 109 (dk_at dksX7_init_28 20 rfl rfl)
theorem dX7_init_690 : decode cX7_init 690 = .ok (.iastore, 1) := dk_79 (dk_at dksX7_init_28 22 rfl rfl)
theorem dX7_init_691 : decode cX7_init 691 = .ok (.dup, 1) := dk_89 (dk_at dksX7_init_28 23 rfl rfl)
theorem dX7_init_692 : decode cX7_init 692 = .ok (.bipush 65, 2) := dk_16 65 (dk_at dksX7_init_29 0 rfl rfl)
theorem dX7_init_694 : decode cX7_init 694 = .ok (.bipush 111, 2) := dk_16 111 (dk_at dksX7_init_29 2 rfl rfl)
theorem dX7_init_696 : decode cX7_init 696 = .ok (.iastore, 1) := dk_79 (dk_at dksX7_init_29 4 rfl rfl)
theorem dX7_init_697 : decode cX7_init 697 = .ok (.dup, 1) := dk_89 (dk_at dksX7_init_29 5 rfl rfl)
theorem dX7_init_698 : decode cX7_init 698 = .ok (.bipush 66, 2) := dk_16 66 (dk_at dksX7_init_29 6 rfl rfl)
theorem dX7_init_700 : decode cX7_init 700 = .ok (.bipush 114, 2) := dk_16 114 (dk_at dksX7_init_29 8 rfl rfl)
theorem dX7_init_702 : decode cX7_init 702 = .ok (.iastore, 1) := dk_79 (dk_at dksX7_init_29 10 rfl rfl)
theorem dX7_init_703 : decode cX7_init 703 = .ok (.dup, 1) := dk_89 (dk_at dksX7_init_29 11 rfl rfl)
theorem dX7_init_704 : decode cX7_init 704 = .ok (.bipush 67, 2) := dk_16 67 (dk_at dksX7_init_29 12 rfl rfl)
theorem dX7_init_706 : decode cX7_init 706 = .ok (.bipush 101, 2) := dk_16 101 (dk_at dksX7_init_29 14 rfl rfl)
theorem dX7_init_708 : decode cX7_init 708 = .ok (.iastore, 1) := dk_79 (dk_at dksX7_init_29 16 rfl rfl)
theorem dX7_init_709 : decode cX7_init 709 = .ok (.dup, 1) := dk_89 (dk_at dksX7_init_29 17 rfl rfl)
theorem dX7_init_710 : decode cX7_init 710 = .ok (.bipush 68, 2) := dk_16 68 (dk_at dksX7_init_29 18 rfl rfl)
theorem dX7_init_712 : decode cX7_init 712 = .ok (.bipush 32, 2) := dk_16 32 (dk_at dksX7_init_29 20 rfl rfl)
theorem dX7_init_714 : decode cX7_init 714 = .ok (.iastore, 1) := dk_79 (dk_at dksX7_init_29 22 rfl rfl)
theorem dX7_init_715 : decode cX7_init 715 = .ok (.dup, 1) := dk_89 (dk_at dksX7_init_29 23 rfl rfl)
theorem dX7_init_716 : decode cX7_init 716 = .ok (.bipush 69, 2) := dk_16 69 (dk_at dksX7_init_30 0 rfl rfl)
theorem dX7_init_718 : decode cX7_init 718 = .ok (.bipush 32, 2) := dk_16 32 (dk_at dksX7_init_30 2 rfl rfl)
theorem dX7_init_720 : decode cX7_init 720 = .ok (.iastore, 1) := dk_79 (dk_at dksX7_init_30 4 rfl rfl)
theorem dX7_init_721 : decode cX7_init 721 = .ok (.dup, 1) := dk_89 (dk_at dksX7_init_30 5 rfl rfl)
theorem dX7_init_722 : decode cX7_init 722 = .ok (.bipush 70, 2) := dk_16 70 (dk_at dksX7_init_30 6 rfl rfl)
theorem dX7_init_724 : decode cX7_init 724 = .ok (.bipush 32, 2) := dk_16 32 (dk_at dksX7_init_30 8 rfl rfl)
theorem dX7_init_726 : decode cX7_init 726 = .ok (.iastore, 1) := dk_79 (dk_at dksX7_init_30 10 rfl rfl)
theorem dX7_init_727 : decode cX7_init 727 = .ok (.dup, 1) := dk_89 (dk_at dksX7_init_30 11 rfl rfl)
theorem dX7_init_728 : decode cX7_init 728 = .ok (.bipush 71, 2) := dk_16 71 (dk_at dksX7_init_30 12 rfl rfl)
theorem dX7_init_730 : decode cX7_init 730 = .ok (.bipush 32, 2) := dk_16 32 (dk_at dksX7_init_30 14 rfl rfl)
theorem dX7_init_732 : decode cX7_init 732 = .ok (.iastore, 1) := dk_79 (dk_at dksX7_init_30 16 rfl rfl)
theorem dX7_init_733 : decode cX7_init 733 = .ok (.dup, 1) := dk_89 (dk_at dksX7_init_30 17 rfl rfl)
theorem dX7_init_734 : decode cX7_init 734 = .ok (.bipush 72, 2) := dk_16 72 (dk_at dksX7_init_30 18 rfl rfl)
theorem dX7_init_736 : decode cX7_init 736 = .ok (.bipush 111, 2) := dk_16 111 (dk_at dksX7_init_30 20 rfl rfl)
theorem dX7_init_738 : decode cX7_init 738 = .ok (.iastore, 1) := dk_79 (dk_at dksX7_init_30 22 rfl rfl)
theorem dX7_init_739 : decode cX7_init 739 = .ok (.dup, 1) := dk_89 (dk_at dksX7_init_30 23 rfl rfl)
theorem dX7_init_740 : decode cX7_init 740 = .ok (.bipush 73, 2) := dk_16 73 (dk_at dksX7_init_31 0 rfl rfl)
theorem dX7_init_742 : decode cX7_init 742 = .ok (.bipush 114, 2) := dk_16 114 (dk_at dksX7_init_31 2 rfl rfl)
theorem dX7_init_744 : decode cX7_init 744 = .ok (.iastore, 1) := dk_79 (dk_at dksX7_init_31 4 rfl rfl)
theorem dX7_init_745 : decode cX7_init 745 = .ok (.dup, 1) := dk_89 (dk_at dksX7_init_31 5 rfl rfl)
theorem dX7_init_746 : decode cX7_init 746 = .ok (.bipush 74, 2) := dk_16 74 (dk_at dksX7_init_31 6 rfl rfl)
theorem dX7_init_748 : decode cX7_init 748 = .ok (.bipush 32, 2) := dk_16 32 (dk_at dksX7_init_31 8 rfl rfl)
theorem dX7_init_750 : decode cX7_init 750 = .ok (.iastore, 1) := dk_79 (dk_at dksX7_init_31 10 rfl rfl)
theorem dX7_init_751 : decode cX7_init 751 = .ok (.dup, 1) := dk_89 (dk_at dksX7_init_31 11 rfl rfl)
theorem dX7_init_752 : decode cX7_init 752 = .ok (.bipush 75, 2) := dk_16 75 (dk_at dksX7_init_31 12 rfl rfl)
theorem dX7_init_754 : decode cX7_init 754 = .ok (.bipush 32, 2) := dk_16 32 (dk_at dksX7_init_31 14 rfl rfl)
theorem dX7_init_756 : decode cX7_init 756 = .ok (.iastore, 1) := dk_79 (dk_at dksX7_init_31 16 rfl rfl)
theorem dX7_init_757 : decode cX7_init 757 = .ok (.dup, 1) := dk_89 (dk_at dksX7_init_31 17 rfl rfl)
theorem dX7_init_758 : decode cX7_init 758 = .ok (.bipush 76, 2) := dk_16 76 (dk_at dksX7_init_31 18 rfl rfl)
theorem dX7_init_760 : decode cX7_init 760 = .ok (.bipush 32, 2) := dk_16 32 (dk_at dksX7_init_31 20 rfl rfl)
theorem dX7_init_762 : decode cX7_init 762 = .ok (.iastore, 1) := dk_79 (dk_at dksX7_init_31 22 rfl rfl)
theorem dX7_init_763 : decode cX7_init 763 = .ok (.dup, 1) := dk_89 (dk_at dksX7_init_31 23 rfl rfl)
theorem dX7_init_764 : decode cX7_init 764 = .ok (.bipush 77, 2) := dk_16 77 (dk_at dksX7_init_32 0 rfl rfl)
theorem dX7_init_766 : decode cX7_init 766 = .ok (.bipush 32, 2) := dk_16 32 (dk_at dksX7_init_32 2 rfl rfl)
theorem dX7_init_768 : decode cX7_init 768 = .ok (.iastore, 1) := dk_79 (dk_at dksX7_init_32 4 rfl rfl)
theorem dX7_init_769 : decode cX7_init 769 = .ok (.dup, 1) := dk_89 (dk_at dksX7_init_32 5 rfl rfl)
theorem dX7_init_770 : decode cX7_init 770 = .ok (.bipush 78, 2) := dk_16 78 (dk_at dksX7_init_32 6 rfl rfl)
theorem dX7_init_772 : decode cX7_init 772 = .ok (.bipush 32, 2) := dk_16 32 (dk_at dksX7_init_32 8 rfl rfl)
theorem dX7_init_774 : decode cX7_init 774 = .ok (.iastore, 1) := dk_79 (dk_at dksX7_init_32 10 rfl rfl)
theorem dX7_init_775 : decode cX7_init 775 = .ok (.dup, 1) := dk_89 (dk_at dksX7_init_32 11 rfl rfl)
theorem dX7_init_776 : decode cX7_init 776 = .ok (.bipush 79, 2) := dk_16 79 (dk_at dksX7_init_32 12 rfl rfl)
theorem dX7_init_778 : decode cX7_init 778 = .ok (.bipush 32, 2) := dk_16 32 (dk_at dksX7_init_32 14 rfl rfl)
theorem dX7_init_780 : decode cX7_init 780 = .ok (.iastore, 1) := dk_79 (dk_at dksX7_init_32 16 rfl rfl)
theorem dX7_init_781 : decode cX7_init 781 = .ok (.dup, 1) := dk_89 (dk_at dksX7_init_32 17 rfl rfl)
theorem dX7_init_782 : decode cX7_init 782 = .ok (.bipush 80, 2) := dk_16 80 (dk_at dksX7_init_32 18 rfl rfl)
theorem dX7_init_784 : decode cX7_init 784 = .ok (.bipush 97, 2) := dk_16 97 (dk_at dksX7_init_32 20 rfl rfl)
theorem dX7_init_786 : decode cX7_init 786 = .ok (.iastore, 1) := dk_79 (dk_at dksX7_init_32 22 rfl rfl)
theorem dX7_init_787 : decode cX7_init 787 = .ok (.dup, 1) := dk_89 (dk_at dksX7_init_32 23 rfl rfl)
theorem dX7_init_788 : decode cX7_init 788 = .ok (.bipush 81, 2) := dk_16 81 (dk_at dksX7_init_33 0 rfl rfl)
theorem dX7_init_790 : decode cX7_init 790 = .ok (.bipush 110, 2) := dk_16 110 (dk_at dksX7_init_33 2 rfl rfl)
theorem dX7_init_792 : decode cX7_init 792 = .ok (.iastore, 1) := dk_79 (dk_at dksX7_init_33 4 rfl rfl)
theorem dX7_init_793 : decode cX7_init 793 = .ok (.dup, 1) := dk_89 (dk_at dksX7_init_33 5 rfl rfl)
theorem dX7_init_794 : decode cX7_init 794 = .ok (.bipush 82, 2) := dk_16 82 (dk_at dksX7_init_33 6 rfl rfl)
theorem dX7_init_796 : decode cX7_init 796 = .ok (.bipush 100, 2) := dk_16 100 (dk_at dksX7_init_33 8 rfl rfl)
theorem dX7_init_798 : decode cX7_init 798 = .ok (.iastore, 1) := dk_79 (dk_at dksX7_init_33 10 rfl rfl)
theorem dX7_init_799 : decode cX7_init 799 = .ok (.dup, 1) := dk_89 (dk_at dksX7_init_33 11 rfl rfl)
theorem dX7_init_800 : decode cX7_init 800 = .ok (.bipush 83, 2) := dk_16 83 (dk_at dksX7_init_33 12 rfl rfl)
theorem dX7_init_802 : decode cX7_init 802 = .ok (.bipush 32, 2) := dk_16 32 (dk_at dksX7_init_33 14 rfl rfl)
theorem dX7_init_804 : decode cX7_init 804 = .ok (.iastore, 1) := dk_79 (dk_at dksX7_init_33 16 rfl rfl)
theorem dX7_init_805 : decode cX7_init 805 = .ok (.dup, 1) := dk_89 (dk_at dksX7_init_33 17 rfl rfl)
theorem dX7_init_806 : decode cX7_init 806 = .ok (.bipush 84, 2) := dk_16 84 (dk_at dksX7_init_33 18 rfl rfl)
theorem dX7_init_808 : decode cX7_init 808 = .ok (.bipush 32, 2) := dk_16 32 (dk_at dksX7_init_33 20 rfl rfl)
theorem dX7_init_810 : decode cX7_init 810 = .ok (.iastore, 1) := dk_79 (dk_at dksX7_init_33 22 rfl rfl)
theorem dX7_init_811 : decode cX7_init 811 = .ok (.dup, 1) := dk_89 (dk_at dksX7_init_33 23 rfl rfl)
theorem dX7_init_812 : decode cX7_init 812 = .ok (.bipush 85, 2) := dk_16 85 (dk_at dksX7_init_34 0 rfl rfl)
theorem dX7_init_814 : decode cX7_init 814 = .ok (.bipush 32, 2) := dk_16 32 (dk_at dksX7_init_34 2 rfl rfl)
theorem dX7_init_816 : decode cX7_init 816 = .ok (.iastore, 1) := dk_79 (dk_at dksX7_init_34 4 rfl rfl)
theorem dX7_init_817 : decode cX7_init 817 = .ok (.dup, 1) := dk_89 (dk_at dksX7_init_34 5 rfl rfl)
theorem dX7_init_818 : decode cX7_init 818 = .ok (.bipush 86, 2) := dk_16 86 (dk_at dksX7_init_34 6 rfl rfl)
theorem dX7_init_820 : decode cX7_init 820 = .ok (.bipush 32, 2) := dk_16 32 (dk_at dksX7_init_34 8 rfl rfl)
theorem dX7_init_822 : decode cX7_init 822 = .ok (.iastore, 1) := dk_79 (dk_at dksX7_init_34 10 rfl rfl)
theorem dX7_init_823 : decode cX7_init 823 = .ok (.dup, 1) := dk_89 (dk_at dksX7_init_34 11 rfl rfl)
theorem dX7_init_824 : decode cX7_init 824 = .ok (.bipush 87, 2) := dk_16 87 (dk_at dksX7_init_34 12 rfl rfl)
theorem dX7_init_826 : decode cX7_init 826 = .ok (.bipush 32, 2) := dk_16 32 (dk_at dksX7_init_34 14 rfl rfl)
theorem dX7_init_828 : decode cX7_init 828 = .ok (.iastore, 1) := dk_79 (dk_at dksX7_init_34 16 rfl rfl)
theorem dX7_init_829 : decode cX7_init 829 = .ok (.dup, 1) := dk_89 (dk_at dksX7_init_34 17 rfl rfl)
theorem dX7_init_830 : decode cX7_init 830 = .ok (.bipush 88, 2) := dk_16 88 (dk_at dksX7_init_34 18 rfl rfl)
theorem dX7_init_832 : decode cX7_init 832 = .ok (.bipush 110, 2) := dk_16 110 (dk_at dksX7_init_34 20 rfl rfl)
theorem dX7_init_834 : decode cX7_init 834 = .ok (.iastore, 1) := dk_79 (dk_at dksX7_init_34 22 rfl rfl)
theorem dX7_init_835 : decode cX7_init 835 = .ok (.dup, 1) := dk_89 (dk_at dksX7_init_34 23 rfl rfl)
theorem dX7_init_836 : decode cX7_init 836 = .ok (.bipush 89, 2) := dk_16 89 (dk_at dksX7_init_35 0 rfl rfl)
theorem dX7_init_838 : decode cX7_init 838 = .ok (.bipush 111, 2) := dk_16 111 (dk_at dksX7_init_35 2 rfl rfl)
theorem dX7_init_840 : decode cX7_init 840 = .ok (.iastore, 1) := dk_79 (dk_at dksX7_init_35 4 rfl rfl)
theorem dX7_init_841 : decode cX7_init 841 = .ok (.dup, 1) := dk_89 (dk_at dksX7_init_35 5 rfl rfl)
theorem dX7_init_842 : decode cX7_init 842 = .ok (.bipush 90, 2) := dk_16 90 (dk_at dksX7_init_35 6 rfl rfl)
theorem dX7_init_844 : decode cX7_init 844 = .ok (.bipush 116, 2) := dk_16 116 (dk_at dksX7_init_35 8 rfl rfl)
theorem dX7_init_846 : decode cX7_init 846 = .ok (.iastore, 1) := dk_79 (dk_at dksX7_init_35 10 rfl rfl)
theorem dX7_init_847 : decode cX7_init 847 = .ok (.dup, 1) := dk_89 (dk_at dksX7_init_35 11 rfl rfl)
theorem dX7_init_848 : decode cX7_init 848 = .ok (.bipush 91, 2) := dk_16 91 (dk_at dksX7_init_35 12 rfl rfl)
theorem dX7_init_850 : decode cX7_init 850 = .ok (.bipush 32, 2) := dk_16 32 (dk_at dksX7_init_35 14 rfl rfl)
theorem dX7_init_852 : decode cX7_init 852 = .ok (.iastore, 1) := dk_79 (dk_at dksX7_init_35 16 rfl rfl)
theorem dX7_init_853 : decode cX7_init 853 = .ok (.dup, 1) := dk_89 (dk_at dksX7_init_35 17 rfl rfl)
theorem dX7_init_854 : decode cX7_init 854 = .ok (.bipush 92, 2) := dk_16 92 (dk_at dksX7_init_35 18 rfl rfl)
theorem dX7_init_856 : decode cX7_init 856 = .ok (.bipush 32, 2) := dk_16 32 (dk_at dksX7_init_35 20 rfl rfl)
theorem dX7_init_858 : decode cX7_init 858 = .ok (.iastore, 1) := dk_79 (dk_at dksX7_init_35 22 rfl rfl)
theorem dX7_init_859 : decode cX7_init 859 = .ok (.dup, 1) := dk_89 (dk_at dksX7_init_35 23 rfl rfl)
theorem dX7_init_860 : decode cX7_init 860 = .ok (.bipush 93, 2) := dk_16 93 (dk_at dksX7_init_36 0 rfl rfl)
theorem dX7_init_862 : decode cX7_init 862 = .ok (.bipush 32, 2) := dk_16 32 (dk_at dksX7_init_36 2 rfl rfl)
theorem dX7_init_864 : decode cX7_init 864 = .ok (.iastore, 1) := dk_79 (dk_at dksX7_init_36 4 rfl rfl)
theorem dX7_init_865 : decode cX7_init 865 = .ok (.dup, 1) := dk_89 (dk_at dksX7_init_36 5 rfl rfl)
theorem dX7_init_866 : decode cX7_init 866 = .ok (.bipush 94, 2) := dk_16 94 (dk_at dksX7_init_36 6 rfl rfl)
theorem dX7_init_868 : decode cX7_init 868 = .ok (.bipush 32, 2) := dk_16 32 (dk_at dksX7_init_36 8 rfl rfl)
theorem dX7_init_870 : decode cX7_init 870 = .ok (.iastore, 1) := dk_79 (dk_at dksX7_init_36 10 rfl rfl)
theorem dX7_init_871 : decode cX7_init 871 = .ok (.dup, 1) := dk_89 (dk_at dksX7_init_36 11 rfl rfl)
theorem dX7_init_872 : decode cX7_init 872 = .ok (.bipush 95, 2) := dk_16 95 (dk_at dksX7_init_36 12 rfl rfl)
theorem dX7_init_874 : decode cX7_init 874 = .ok (.bipush 32, 2) := dk_16 32 (dk_at dksX7_init_36 14 rfl rfl)
theorem dX7_init_876 : decode cX7_init 876 = .ok (.iastore, 1) := dk_79 (dk_at dksX7_init_36 16 rfl rfl)
theorem dX7_init_877 : decode cX7_init 877 = .ok (.putfield 46, 3) := dk_181 0 46 (dk_at dksX7_init_36 17 rfl rfl)
theorem dX7_init_880 : decode cX7_init 880 = .ok (.aload_n 0, 1) := dk_42 (dk_at dksX7_init_36 20 rfl rfl)
theorem dX7_init_881 : decode cX7_init 881 = .ok (.sipush 200, 3) := dk_17 0 200 (dk_at dksX7_init_36 21 rfl rfl)
theorem dX7_init_884 : decode cX7_init 884 = .ok (.newarray .int, 2) := dk_188_10 (dk_at dksX7_init_37 0 rfl rfl)
theorem dX7_init_886 : decode cX7_init 886 = .ok (.putfield 49, 3) := dk_181 0 49 (dk_at dksX7_init_37 2 rfl rfl)
theorem dX7_init_889 : decode cX7_init 889 = .ok (.aload_n 0, 1) := dk_42 (dk_at dksX7_init_37 5 rfl rfl)
theorem dX7_init_890 : decode cX7_init 890 = .ok (.sipush 200, 3) := dk_17 0 200 (dk_at dksX7_init_37 6 rfl rfl)
theorem dX7_init_893 : decode cX7_init 893 = .ok (.newarray .int, 2) := dk_188_10 (dk_at dksX7_init_37 9 rfl rfl)
theorem dX7_init_895 : decode cX7_init 895 = .ok (.putfield 52, 3) := dk_181 0 52 (dk_at dksX7_init_37 11 rfl rfl)
theorem dX7_init_898 : decode cX7_init 898 = .ok (.aload_n 0, 1) := dk_42 (dk_at dksX7_init_37 14 rfl rfl)
theorem dX7_init_899 : decode cX7_init 899 = .ok (.bipush 6, 2) := dk_16 6 (dk_at dksX7_init_37 15 rfl rfl)
theorem dX7_init_901 : decode cX7_init 901 = .ok (.newarray .int, 2) := dk_188_10 (dk_at dksX7_init_37 17 rfl rfl)
theorem dX7_init_903 : decode cX7_init 903 = .ok (.putfield 55, 3) := dk_181 0 55 (dk_at dksX7_init_37 19 rfl rfl)
theorem dX7_init_906 : decode cX7_init 906 = .ok (.aload_n 0, 1) := dk_42 (dk_at dksX7_init_37 22 rfl rfl)
theorem dX7_init_907 : decode cX7_init 907 = .ok (.bipush 20, 2) := dk_16 20 (dk_at dksX7_init_38 0 rfl rfl)
theorem dX7_init_909 : decode cX7_init 909 = .ok (.newarray .int, 2) := dk_188_10 (dk_at dksX7_init_38 2 rfl rfl)
theorem dX7_init_911 : decode cX7_init 911 = .ok (.putfield 58, 3) := dk_181 0 58 (dk_at dksX7_init_38 4 rfl rfl)
theorem dX7_init_914 : decode cX7_init 914 = .ok (.iconst 0, 1) := dk_3 (dk_at dksX7_init_38 7 rfl rfl)
theorem dX7_init_915 : decode cX7_init 915 = .ok (.istore_n 1, 1) := dk_60 (dk_at dksX7_init_38 8 rfl rfl)
theorem dX7_init_916 : decode cX7_init 916 = .ok (.iload_n 1, 1) := dk_27 (dk_at dksX7_init_38 9 rfl rfl)
theorem dX7_init_917 : decode cX7_init 917 = .ok (.bipush 32, 2) := dk_16 32 (dk_at dksX7_init_38 10 rfl rfl)
theorem dX7_init_919 : decode cX7_init 919 = .ok (.if_icmp .ge 21, 3) := dk_162 0 21 (dk_at dksX7_init_38 12 rfl rfl)
theorem dX7_init_922 : decode cX7_init 922 = .ok (.aload_n 0, 1) := dk_42 (dk_at dksX7_init_38 15 rfl rfl)
theorem dX7_init_923 : decode cX7_init 923 = .ok (.getfield 19, 3) := dk_180 0 19 (dk_at dksX7_init_38 16 rfl rfl)
theorem dX7_init_926 : decode cX7_init 926 = .ok (.iload_n 1, 1) := dk_27 (dk_at dksX7_init_38 19 rfl rfl)
theorem dX7_init_927 : decode cX7_init 927 = .ok (.aload_n 0, 1) := dk_42 (dk_at dksX7_init_38 20 rfl rfl)
theorem dX7_init_928 : decode cX7_init 928 = .ok (.getfield 43, 3) := dk_180 0 43 (dk_at dksX7_init_38 21 rfl rfl)
theorem dX7_init_931 : decode cX7_init 931 = .ok (.iload_n 1, 1) := dk_27 (dk_at dksX7_init_39 0 rfl rfl)
theorem dX7_init_932 : decode cX7_init 932 = .ok (.iaload, 1) := dk_46 (dk_at dksX7_init_39 1 rfl rfl)
theorem dX7_init_933 : decode cX7_init 933 = .ok (.iastore, 1) := dk_79 (dk_at dksX7_init_39 2 rfl rfl)
theorem dX7_init_934 : decode cX7_init 934 = .ok (.iinc 1 1, 3) := dk_132 1 1 (dk_at dksX7_init_39 3 rfl rfl)
theorem dX7_init_937 : decode cX7_init 937 = .ok (.goto (-21), 3) := dk_167 255 235 (dk_at dksX7_init_39 6 rfl rfl)
theorem dX7_init_940 : decode cX7_init 940 = .ok (.aload_n 0, 1) := dk_42 (dk_at dksX7_init_39 9 rfl rfl)
theorem dX7_init_941 : decode cX7_init 941 = .ok (.bipush 32, 2) := dk_16 32 (dk_at dksX7_init_39 10 rfl rfl)
theorem dX7_init_943 : decode cX7_init 943 = .ok (.putfield 61, 3) := dk_181 0 61 (dk_at dksX7_init_39 12 rfl rfl)
theorem dX7_init_946 : decode cX7_init 946 = .ok (.aload_n 0, 1) := dk_42 (dk_at dksX7_init_39 15 rfl rfl)
theorem dX7_init_947 : decode cX7_init 947 = .ok (.invokevirtual 65, 3) := dk_182 0 65 (dk_at dksX7_init_39 16 rfl rfl)
theorem dX7_init_950 : decode cX7_init 950 = .ok (.pop, 1) := dk_87 (dk_at dksX7_init_39 19 rfl rfl)
theorem dX7_init_951 : decode cX7_init 951 = .ok (.return_, 1) := dk_177 (dk_at dksX7_init_39 20 rfl rfl)
abbrev cX7_text : ByteArray := prog_19_method_23_code
def yX7_text : MethodName := ⟨RX7, "text", "()I"⟩
def dkwX7_text_7 : List UInt8 := [181, 0, 86, 42, 180, 0, 86, 4, 100, 172]
abbrev dktX7_text_7 : List UInt8 := dkwX7_text_7 ++ []
def dkwX7_text_6 : List UInt8 := [181, 0, 61, 27, 154, 0, 11, 16, 156, 42, 180, 0, 100, 100, 172, 42, 89, 180, 0, 86, 4, 96]
abbrev dktX7_text_6 : List UInt8 := dkwX7_text_6 ++ dktX7_text_7
def dkwX7_text_5 : List UInt8 := [167, 0, 4, 3, 60, 42, 180, 0, 25, 7, 42, 180, 0, 86, 104, 6, 96, 42, 180, 0, 113, 79, 42, 3]
abbrev dktX7_text_5 : List UInt8 := dkwX7_text_5 ++ dktX7_text_6
def dkwX7_text_4 : List UInt8 := [132, 2, 1, 167, 255, 184, 27, 153, 0, 20, 42, 182, 0, 135, 42, 180, 0, 103, 154, 0, 7, 4]
abbrev dktX7_text_4 : List UInt8 := dkwX7_text_4 ++ dktX7_text_5
def dkwX7_text_3 : List UInt8 := [96, 42, 180, 0, 113, 79, 27, 153, 0, 14, 42, 182, 0, 148, 153, 0, 7, 4, 167, 0, 4, 3, 60]
abbrev dktX7_text_3 : List UInt8 := dkwX7_text_3 ++ dktX7_text_4
def dkwX7_text_2 : List UInt8 := [180, 0, 106, 28, 160, 0, 7, 4, 167, 0, 4, 3, 60, 42, 180, 0, 25, 7, 42, 180, 0, 86, 104, 28]
abbrev dktX7_text_2 : List UInt8 := dkwX7_text_2 ++ dktX7_text_3
def dkwX7_text_1 : List UInt8 := [3, 61, 28, 6, 162, 0, 73, 27, 153, 0, 69, 42, 182, 0, 135, 42, 180, 0, 103, 6, 160, 0, 15, 42]
abbrev dktX7_text_1 : List UInt8 := dkwX7_text_1 ++ dktX7_text_2
def dkwX7_text_0 : List UInt8 := [42, 180, 0, 86, 16, 6, 160, 0, 6, 16, 252, 172, 42, 3, 181, 0, 97, 42, 3, 181, 0, 113, 4, 60]
abbrev dktX7_text_0 : List UInt8 := dkwX7_text_0 ++ dktX7_text_1
theorem dksX7_text_0 : cX7_text.data.toList.drop 0 = dktX7_text_0 := by decide +kernel
theorem dksX7_text_1 : cX7_text.data.toList.drop 24 = dktX7_text_1 := dk_seg dksX7_text_0 24 rfl rfl
theorem dksX7_text_2 : cX7_text.data.toList.drop 48 = dktX7_text_2 := dk_seg dksX7_text_1 24 rfl rfl
theorem dksX7_text_3 : cX7_text.data.toList.drop 72 = dktX7_text_3 := dk_seg dksX7_text_2 24 rfl rfl
theorem dksX7_text_4 : cX7_text.data.toList.drop 95 = dktX7_text_4 := dk_seg dksX7_text_3 23 rfl rfl
theorem dksX7_text_5 : cX7_text.data.toList.drop 117 = dktX7_text_5 := dk_seg dksX7_text_4 22 rfl rfl
theorem dksX7_text_6 : cX7_text.data.toList.drop 141 = dktX7_text_6 := dk_seg dksX7_text_5 24 rfl rfl
theorem dksX7_text_7 : cX7_text.data.toList.drop 163 = dktX7_text_7 := dk_seg dksX7_text_6 22 rfl rfl
theorem dX7_text_0 : decode cX7_text 0 = .ok (.aload_n 0, 1) := dk_42 (dk_at dksX7_text_0 0 rfl rfl)
theorem dX7_text_1 : decode cX7_text 1 = .ok (.getfield 86, 3) := dk_180 0 86 (dk_at dksX7_text_0 1 rfl rfl)
theorem dX7_text_4 : decode cX7_text 4 = .ok (.bipush 6, 2) := dk_16 6 (dk_at dksX7_text_0 4 rfl rfl)
theorem dX7_text_6 : decode cX7_text 6 = .ok (.if_icmp .ne 6, 3) := dk_160 0 6 (dk_at dksX7_text_0 6 rfl rfl)
theorem dX7_text_9 : decode cX7_text 9 = .ok (.bipush (-4), 2) := dk_16 252 (dk_at dksX7_text_0 9 rfl rfl)
theorem dX7_text_11 : decode cX7_text 11 = .ok (.ireturn, 1) := dk_172 (dk_at dksX7_text_0 11 rfl rfl)
theorem dX7_text_12 : decode cX7_text 12 = .ok (.aload_n 0, 1) := dk_42 (dk_at dksX7_text_0 12 rfl rfl)
theorem dX7_text_13 : decode cX7_text 13 = .ok (.iconst 0, 1) := dk_3 (dk_at dksX7_text_0 13 rfl rfl)
theorem dX7_text_14 : decode cX7_text 14 = .ok (.putfield 97, 3) := dk_181 0 97 (dk_at dksX7_text_0 14 rfl rfl)
theorem dX7_text_17 : decode cX7_text 17 = .ok (.aload_n 0, 1) := dk_42 (dk_at dksX7_text_0 17 rfl rfl)
theorem dX7_text_18 : decode cX7_text 18 = .ok (.iconst 0, 1) := dk_3 (dk_at dksX7_text_0 18 rfl rfl)
theorem dX7_text_19 : decode cX7_text 19 = .ok (.putfield 113, 3) := dk_181 0 113 (dk_at dksX7_text_0 19 rfl rfl)
theorem dX7_text_22 : decode cX7_text 22 = .ok (.iconst 1, 1) := dk_4 (dk_at dksX7_text_0 22 rfl rfl)
theorem dX7_text_23 : decode cX7_text 23 = .ok (.istore_n 1, 1) := dk_60 (dk_at dksX7_text_0 23 rfl rfl)
theorem dX7_text_24 : decode cX7_text 24 = .ok (.iconst 0, 1) := dk_3 (dk_at dksX7_text_1 0 rfl rfl)
theorem dX7_text_25 : decode cX7_text 25 = .ok (.istore_n 2, 1) := dk_61 (dk_at dksX7_text_1 1 rfl rfl)
theorem dX7_text_26 : decode cX7_text 26 = .ok (.iload_n 2, 1) := dk_28 (dk_at dksX7_text_1 2 rfl rfl)
theorem dX7_text_27 : decode cX7_text 27 = .ok (.iconst 3, 1) := dk_6 (dk_at dksX7_text_1 3 rfl rfl)
theorem dX7_text_28 : decode cX7_text 28 = .ok (.if_icmp .ge 73, 3) := dk_162 0 73 (dk_at dksX7_text_1 4 rfl rfl)
theorem dX7_text_31 : decode cX7_text 31 = .ok (.iload_n 1, 1) := dk_27 (dk_at dksX7_text_1 7 rfl rfl)
theorem dX7_text_32 : decode cX7_text 32 = .ok (.ifCond .eq 69, 3) := dk_153 0 69 (dk_at dksX7_text_1 8 rfl rfl)
theorem dX7_text_35 : decode cX7_text 35 = .ok (.aload_n 0, 1) := dk_42 (dk_at dksX7_text_1 11 rfl rfl)
theorem dX7_text_36 : decode cX7_text 36 = .ok (.invokevirtual 135, 3) := dk_182 0 135 (dk_at dksX7_text_1 12 rfl rfl)
theorem dX7_text_39 : decode cX7_text 39 = .ok (.aload_n 0, 1) := dk_42 (dk_at dksX7_text_1 15 rfl rfl)
theorem dX7_text_40 : decode cX7_text 40 = .ok (.getfield 103, 3) := dk_180 0 103 (dk_at dksX7_text_1 16 rfl rfl)
theorem dX7_text_43 : decode cX7_text 43 = .ok (.iconst 3, 1) := dk_6 (dk_at dksX7_text_1 19 rfl rfl)
theorem dX7_text_44 : decode cX7_text 44 = .ok (.if_icmp .ne 15, 3) := dk_160 0 15 (dk_at dksX7_text_1 20 rfl rfl)
theorem dX7_text_47 : decode cX7_text 47 = .ok (.aload_n 0, 1) := dk_42 (dk_at dksX7_text_1 23 rfl rfl)
theorem dX7_text_48 : decode cX7_text 48 = .ok (.getfield 106, 3) := dk_180 0 106 (dk_at dksX7_text_2 0 rfl rfl)
theorem dX7_text_51 : decode cX7_text 51 = .ok (.iload_n 2, 1) := dk_28 (dk_at dksX7_text_2 3 rfl rfl)
theorem dX7_text_52 : decode cX7_text 52 = .ok (.if_icmp .ne 7, 3) := dk_160 0 7 (dk_at dksX7_text_2 4 rfl rfl)
theorem dX7_text_55 : decode cX7_text 55 = .ok (.iconst 1, 1) := dk_4 (dk_at dksX7_text_2 7 rfl rfl)
theorem dX7_text_56 : decode cX7_text 56 = .ok (.goto 4, 3) := dk_167 0 4 (dk_at dksX7_text_2 8 rfl rfl)
theorem dX7_text_59 : decode cX7_text 59 = .ok (.iconst 0, 1) := dk_3 (dk_at dksX7_text_2 11 rfl rfl)
theorem dX7_text_60 : decode cX7_text 60 = .ok (.istore_n 1, 1) := dk_60 (dk_at dksX7_text_2 12 rfl rfl)
theorem dX7_text_61 : decode cX7_text 61 = .ok (.aload_n 0, 1) := dk_42 (dk_at dksX7_text_2 13 rfl rfl)
theorem dX7_text_62 : decode cX7_text 62 = .ok (.getfield 25, 3) := dk_180 0 25 (dk_at dksX7_text_2 14 rfl rfl)
theorem dX7_text_65 : decode cX7_text 65 = .ok (.iconst 4, 1) := dk_7 (dk_at dksX7_text_2 17 rfl rfl)
theorem dX7_text_66 : decode cX7_text 66 = .ok (.aload_n 0, 1) := dk_42 (dk_at dksX7_text_2 18 rfl rfl)
theorem dX7_text_67 : decode cX7_text 67 = .ok (.getfield 86, 3) := dk_180 0 86 (dk_at dksX7_text_2 19 rfl rfl)
theorem dX7_text_70 : decode cX7_text 70 = .ok (.imul, 1) := dk_104 (dk_at dksX7_text_2 22 rfl rfl)
theorem dX7_text_71 : decode cX7_text 71 = .ok (.iload_n 2, 1) := dk_28 (dk_at dksX7_text_2 23 rfl rfl)
theorem dX7_text_72 : decode cX7_text 72 = .ok (.iadd, 1) := dk_96 (dk_at dksX7_text_3 0 rfl rfl)
theorem dX7_text_73 : decode cX7_text 73 = .ok (.aload_n 0, 1) := dk_42 (dk_at dksX7_text_3 1 rfl rfl)
theorem dX7_text_74 : decode cX7_text 74 = .ok (.getfield 113, 3) := dk_180 0 113 (dk_at dksX7_text_3 2 rfl rfl)
theorem dX7_text_77 : decode cX7_text 77 = .ok (.iastore, 1) := dk_79 (dk_at dksX7_text_3 5 rfl rfl)
theorem dX7_text_78 : decode cX7_text 78 = .ok (.iload_n 1, 1) := dk_27 (dk_at dksX7_text_3 6 rfl rfl)
theorem dX7_text_79 : decode cX7_text 79 = .ok (.ifCond .eq 14, 3) := dk_153 0 14 (dk_at dksX7_text_3 7 rfl rfl)
theorem dX7_text_82 : decode cX7_text 82 = .ok (.aload_n 0, 1) := dk_42 (dk_at dksX7_text_3 10 rfl rfl)
theorem dX7_text_83 : decode cX7_text 83 = .ok (.invokevirtual 148, 3) := dk_182 0 148 (dk_at dksX7_text_3 11 rfl rfl)
theorem dX7_text_86 : decode cX7_text 86 = .ok (.ifCond .eq 7, 3) := dk_153 0 7 (dk_at dksX7_text_3 14 rfl rfl)
theorem dX7_text_89 : decode cX7_text 89 = .ok (.iconst 1, 1) := dk_4 (dk_at dksX7_text_3 17 rfl rfl)
theorem dX7_text_90 : decode cX7_text 90 = .ok (.goto 4, 3) := dk_167 0 4 (dk_at dksX7_text_3 18 rfl rfl)
theorem dX7_text_93 : decode cX7_text 93 = .ok (.iconst 0, 1) := dk_3 (dk_at dksX7_text_3 21 rfl rfl)
theorem dX7_text_94 : decode cX7_text 94 = .ok (.istore_n 1, 1) := dk_60 (dk_at dksX7_text_3 22 rfl rfl)
theorem dX7_text_95 : decode cX7_text 95 = .ok (.iinc 2 1, 3) := dk_132 2 1 (dk_at dksX7_text_4 0 rfl rfl)
theorem dX7_text_98 : decode cX7_text 98 = .ok (.goto (-72), 3) := dk_167 255 184 (dk_at dksX7_text_4 3 rfl rfl)
theorem dX7_text_101 : decode cX7_text 101 = .ok (.iload_n 1, 1) := dk_27 (dk_at dksX7_text_4 6 rfl rfl)
theorem dX7_text_102 : decode cX7_text 102 = .ok (.ifCond .eq 20, 3) := dk_153 0 20 (dk_at dksX7_text_4 7 rfl rfl)
theorem dX7_text_105 : decode cX7_text 105 = .ok (.aload_n 0, 1) := dk_42 (dk_at dksX7_text_4 10 rfl rfl)
theorem dX7_text_106 : decode cX7_text 106 = .ok (.invokevirtual 135, 3) := dk_182 0 135 (dk_at dksX7_text_4 11 rfl rfl)
theorem dX7_text_109 : decode cX7_text 109 = .ok (.aload_n 0, 1) := dk_42 (dk_at dksX7_text_4 14 rfl rfl)
theorem dX7_text_110 : decode cX7_text 110 = .ok (.getfield 103, 3) := dk_180 0 103 (dk_at dksX7_text_4 15 rfl rfl)
theorem dX7_text_113 : decode cX7_text 113 = .ok (.ifCond .ne 7, 3) := dk_154 0 7 (dk_at dksX7_text_4 18 rfl rfl)
theorem dX7_text_116 : decode cX7_text 116 = .ok (.iconst 1, 1) := dk_4 (dk_at dksX7_text_4 21 rfl rfl)
theorem dX7_text_117 : decode cX7_text 117 = .ok (.goto 4, 3) := dk_167 0 4 (dk_at dksX7_text_5 0 rfl rfl)
theorem dX7_text_120 : decode cX7_text 120 = .ok (.iconst 0, 1) := dk_3 (dk_at dksX7_text_5 3 rfl rfl)
theorem dX7_text_121 : decode cX7_text 121 = .ok (.istore_n 1, 1) := dk_60 (dk_at dksX7_text_5 4 rfl rfl)
theorem dX7_text_122 : decode cX7_text 122 = .ok (.aload_n 0, 1) := dk_42 (dk_at dksX7_text_5 5 rfl rfl)
theorem dX7_text_123 : decode cX7_text 123 = .ok (.getfield 25, 3) := dk_180 0 25 (dk_at dksX7_text_5 6 rfl rfl)
theorem dX7_text_126 : decode cX7_text 126 = .ok (.iconst 4, 1) := dk_7 (dk_at dksX7_text_5 9 rfl rfl)
theorem dX7_text_127 : decode cX7_text 127 = .ok (.aload_n 0, 1) := dk_42 (dk_at dksX7_text_5 10 rfl rfl)
theorem dX7_text_128 : decode cX7_text 128 = .ok (.getfield 86, 3) := dk_180 0 86 (dk_at dksX7_text_5 11 rfl rfl)
theorem dX7_text_131 : decode cX7_text 131 = .ok (.imul, 1) := dk_104 (dk_at dksX7_text_5 14 rfl rfl)
theorem dX7_text_132 : decode cX7_text 132 = .ok (.iconst 3, 1) := dk_6 (dk_at dksX7_text_5 15 rfl rfl)
theorem dX7_text_133 : decode cX7_text 133 = .ok (.iadd, 1) := dk_96 (dk_at dksX7_text_5 16 rfl rfl)
theorem dX7_text_134 : decode cX7_text 134 = .ok (.aload_n 0, 1) := dk_42 (dk_at dksX7_text_5 17 rfl rfl)
theorem dX7_text_135 : decode cX7_text 135 = .ok (.getfield 113, 3) := dk_180 0 113 (dk_at dksX7_text_5 18 rfl rfl)
theorem dX7_text_138 : decode cX7_text 138 = .ok (.iastore, 1) := dk_79 (dk_at dksX7_text_5 21 rfl rfl)
theorem dX7_text_139 : decode cX7_text 139 = .ok (.aload_n 0, 1) := dk_42 (dk_at dksX7_text_5 22 rfl rfl)
theorem dX7_text_140 : decode cX7_text 140 = .ok (.iconst 0, 1) := dk_3 (dk_at dksX7_text_5 23 rfl rfl)
theorem dX7_text_141 : decode cX7_text 141 = .ok (.putfield 61, 3) := dk_181 0 61 (dk_at dksX7_text_6 0 rfl rfl)
theorem dX7_text_144 : decode cX7_text 144 = .ok (.iload_n 1, 1) := dk_27 (dk_at dksX7_text_6 3 rfl rfl)
theorem dX7_text_145 : decode cX7_text 145 = .ok (.ifCond .ne 11, 3) := dk_154 0 11 (dk_at dksX7_text_6 4 rfl rfl)
theorem dX7_text_148 : decode cX7_text 148 = .ok (.bipush (-100), 2) := dk_16 156 (dk_at dksX7_text_6 7 rfl rfl)
theorem dX7_text_150 : decode cX7_text 150 = .ok (.aload_n 0, 1) := dk_42 (dk_at dksX7_text_6 9 rfl rfl)
theorem dX7_text_151 : decode cX7_text 151 = .ok (.getfield 100, 3) := dk_180 0 100 (dk_at dksX7_text_6 10 rfl rfl)
theorem dX7_text_154 : decode cX7_text 154 = .ok (.isub, 1) := dk_100 (dk_at dksX7_text_6 13 rfl rfl)
theorem dX7_text_155 : decode cX7_text 155 = .ok (.ireturn, 1) := dk_172 (dk_at dksX7_text_6 14 rfl rfl)
theorem dX7_text_156 : decode cX7_text 156 = .ok (.aload_n 0, 1) := dk_42 (dk_at dksX7_text_6 15 rfl rfl)
theorem dX7_text_157 : decode cX7_text 157 = .ok (.dup, 1) := dk_89 (dk_at dksX7_text_6 16 rfl rfl)
theorem dX7_text_158 : decode cX7_text 158 = .ok (.getfield 86, 3) := dk_180 0 86 (dk_at dksX7_text_6 17 rfl rfl)
theorem dX7_text_161 : decode cX7_text 161 = .ok (.iconst 1, 1) := dk_4 (dk_at dksX7_text_6 20 rfl rfl)
theorem dX7_text_162 : decode cX7_text 162 = .ok (.iadd, 1) := dk_96 (dk_at dksX7_text_6 21 rfl rfl)
theorem dX7_text_163 : decode cX7_text 163 = .ok (.putfield 86, 3) := dk_181 0 86 (dk_at dksX7_text_7 0 rfl rfl)
theorem dX7_text_166 : decode cX7_text 166 = .ok (.aload_n 0, 1) := dk_42 (dk_at dksX7_text_7 3 rfl rfl)
theorem dX7_text_167 : decode cX7_text 167 = .ok (.getfield 86, 3) := dk_180 0 86 (dk_at dksX7_text_7 4 rfl rfl)
theorem dX7_text_170 : decode cX7_text 170 = .ok (.iconst 1, 1) := dk_4 (dk_at dksX7_text_7 7 rfl rfl)
theorem dX7_text_171 : decode cX7_text 171 = .ok (.isub, 1) := dk_100 (dk_at dksX7_text_7 8 rfl rfl)
theorem dX7_text_172 : decode cX7_text 172 = .ok (.ireturn, 1) := dk_172 (dk_at dksX7_text_7 9 rfl rfl)
abbrev cX7_next : ByteArray := prog_19_method_14_code
def yX7_next : MethodName := ⟨RX7, "next", "()V"⟩
def dkwX7_next_17 : List UInt8 := [96, 181, 0, 97, 177]
abbrev dktX7_next_17 : List UInt8 := dkwX7_next_17 ++ []
def dkwX7_next_16 : List UInt8 := [167, 0, 4, 3, 61, 42, 28, 153, 0, 7, 27, 167, 0, 4, 2, 181, 0, 103, 42, 89, 180, 0, 97, 4]
abbrev dktX7_next_16 : List UInt8 := dkwX7_next_16 ++ dktX7_next_17
def dkwX7_next_15 : List UInt8 := [16, 45, 159, 0, 21, 27, 16, 42, 159, 0, 15, 27, 16, 60, 159, 0, 9, 27, 16, 61, 160, 0, 7, 4]
abbrev dktX7_next_15 : List UInt8 := dkwX7_next_15 ++ dktX7_next_16
def dkwX7_next_14 : List UInt8 := [16, 40, 159, 0, 45, 27, 16, 41, 159, 0, 39, 27, 16, 59, 159, 0, 33, 27, 16, 43, 159, 0, 27, 27]
abbrev dktX7_next_14 : List UInt8 := dkwX7_next_14 ++ dktX7_next_15
def dkwX7_next_13 : List UInt8 := [181, 0, 97, 167, 255, 180, 42, 28, 7, 164, 0, 7, 2, 167, 0, 4, 4, 181, 0, 103, 167, 0, 80, 27]
abbrev dktX7_next_13 : List UInt8 := dkwX7_next_13 ++ dktX7_next_14
def dkwX7_next_12 : List UInt8 := [46, 96, 16, 48, 100, 167, 0, 4, 3, 181, 0, 106, 132, 2, 1, 42, 89, 180, 0, 97, 4, 96]
abbrev dktX7_next_12 : List UInt8 := dkwX7_next_12 ++ dktX7_next_13
def dkwX7_next_11 : List UInt8 := [153, 0, 52, 42, 28, 7, 162, 0, 26, 16, 10, 42, 180, 0, 106, 104, 42, 180, 0, 19, 42, 180, 0, 97]
abbrev dktX7_next_11 : List UInt8 := dkwX7_next_11 ++ dktX7_next_12
def dkwX7_next_10 : List UInt8 := [42, 180, 0, 61, 162, 0, 71, 42, 180, 0, 19, 42, 180, 0, 97, 46, 16, 48, 16, 57, 184, 0, 72]
abbrev dktX7_next_10 : List UInt8 := dkwX7_next_10 ++ dktX7_next_11
def dkwX7_next_9 : List UInt8 := [100, 181, 0, 106, 167, 0, 189, 27, 16, 48, 16, 57, 184, 0, 72, 153, 0, 101, 3, 61, 42, 180, 0, 97]
abbrev dktX7_next_9 : List UInt8 := dkwX7_next_9 ++ dktX7_next_10
def dkwX7_next_8 : List UInt8 := [167, 0, 9, 7, 28, 96, 16, 9, 100, 181, 0, 103, 42, 28, 6, 162, 0, 7, 28, 167, 0, 6, 28, 6]
abbrev dktX7_next_8 : List UInt8 := dkwX7_next_8 ++ dktX7_next_9
def dkwX7_next_7 : List UInt8 := [162, 0, 7, 6, 167, 0, 29, 28, 16, 9, 162, 0, 7, 5, 167, 0, 19, 28, 16, 12, 160, 0, 7, 2]
abbrev dktX7_next_7 : List UInt8 := dkwX7_next_7 ++ dktX7_next_8
def dkwX7_next_6 : List UInt8 := [96, 181, 0, 97, 167, 255, 216, 42, 42, 180, 0, 100, 42, 180, 0, 97, 182, 0, 109, 61, 42, 28, 6]
abbrev dktX7_next_6 : List UInt8 := dkwX7_next_6 ++ dktX7_next_7
def dkwX7_next_5 : List UInt8 := [180, 0, 19, 42, 180, 0, 97, 46, 16, 97, 16, 122, 184, 0, 72, 153, 0, 16, 42, 89, 180, 0, 97, 4]
abbrev dktX7_next_5 : List UInt8 := dkwX7_next_5 ++ dktX7_next_6
def dkwX7_next_4 : List UInt8 := [16, 97, 16, 122, 184, 0, 72, 153, 0, 117, 42, 180, 0, 97, 42, 180, 0, 61, 162, 0, 35, 42]
abbrev dktX7_next_4 : List UInt8 := dkwX7_next_4 ++ dktX7_next_5
def dkwX7_next_3 : List UInt8 := [42, 180, 0, 97, 42, 180, 0, 61, 160, 0, 4, 177, 42, 180, 0, 19, 42, 180, 0, 97, 46, 60, 27]
abbrev dktX7_next_3 : List UInt8 := dkwX7_next_3 ++ dktX7_next_4
def dkwX7_next_2 : List UInt8 := [181, 0, 97, 167, 255, 207, 42, 42, 180, 0, 97, 181, 0, 100, 42, 3, 181, 0, 103, 42, 3, 181, 0, 106]
abbrev dktX7_next_2 : List UInt8 := dkwX7_next_2 ++ dktX7_next_3
def dkwX7_next_1 : List UInt8 := [159, 0, 17, 42, 180, 0, 19, 42, 180, 0, 97, 46, 16, 10, 160, 0, 16, 42, 89, 180, 0, 97, 4, 96]
abbrev dktX7_next_1 : List UInt8 := dkwX7_next_1 ++ dktX7_next_2
def dkwX7_next_0 : List UInt8 := [42, 180, 0, 97, 42, 180, 0, 61, 162, 0, 44, 42, 180, 0, 19, 42, 180, 0, 97, 46, 16, 32]
abbrev dktX7_next_0 : List UInt8 := dkwX7_next_0 ++ dktX7_next_1
theorem dksX7_next_0 : cX7_next.data.toList.drop 0 = dktX7_next_0 := by decide +kernel
theorem dksX7_next_1 : cX7_next.data.toList.drop 22 = dktX7_next_1 := dk_seg dksX7_next_0 22 rfl rfl
theorem dksX7_next_2 : cX7_next.data.toList.drop 46 = dktX7_next_2 := dk_seg dksX7_next_1 24 rfl rfl
theorem dksX7_next_3 : cX7_next.data.toList.drop 70 = dktX7_next_3 := dk_seg dksX7_next_2 24 rfl rfl
theorem dksX7_next_4 : cX7_next.data.toList.drop 93 = dktX7_next_4 := dk_seg dksX7_next_3 23 rfl rfl
theorem dksX7_next_5 : cX7_next.data.toList.drop 115 = dktX7_next_5 := dk_seg dksX7_next_4 22 rfl rfl
theorem dksX7_next_6 : cX7_next.data.toList.drop 139 = dktX7_next_6 := dk_seg dksX7_next_5 24 rfl rfl
theorem dksX7_next_7 : cX7_next.data.toList.drop 162 = dktX7_next_7 := dk_seg dksX7_next_6 23 rfl rfl
theorem dksX7_next_8 : cX7_next.data.toList.drop 186 = dktX7_next_8 := dk_seg dksX7_next_7 24 rfl rfl
theorem dksX7_next_9 : cX7_next.data.toList.drop 210 = dktX7_next_9 := dk_seg dksX7_next_8 24 rfl rfl
theorem dksX7_next_10 : cX7_next.data.toList.drop 234 = dktX7_next_10 := dk_seg dksX7_next_9 24 rfl rfl
theorem dksX7_next_11 : cX7_next.data.toList.drop 257 = dktX7_next_11 := dk_seg dksX7_next_10 23 rfl rfl
theorem dksX7_next_12 : cX7_next.data.toList.drop 281 = dktX7_next_12 := dk_seg dksX7_next_11 24 rfl rfl
theorem dksX7_next_13 : cX7_next.data.toList.drop 303 = dktX7_next_13 := dk_seg dksX7_next_12 22 rfl rfl
theorem dksX7_next_14 : cX7_next.data.toList.drop 327 = dktX7_next_14 := dk_seg dksX7_next_13 24 rfl rfl
theorem dksX7_next_15 : cX7_next.data.toList.drop 351 = dktX7_next_15 := dk_seg dksX7_next_14 24 rfl rfl
theorem dksX7_next_16 : cX7_next.data.toList.drop 375 = dktX7_next_16 := dk_seg dksX7_next_15 24 rfl rfl
theorem dksX7_next_17 : cX7_next.data.toList.drop 399 = dktX7_next_17 := dk_seg dksX7_next_16 24 rfl rfl
theorem dX7_next_0 : decode cX7_next 0 = .ok (.aload_n 0, 1) := dk_42 (dk_at dksX7_next_0 0 rfl rfl)
theorem dX7_next_1 : decode cX7_next 1 = .ok (.getfield 97, 3) := dk_180 0 97 (dk_at dksX7_next_0 1 rfl rfl)
theorem dX7_next_4 : decode cX7_next 4 = .ok (.aload_n 0, 1) := dk_42 (dk_at dksX7_next_0 4 rfl rfl)
theorem dX7_next_5 : decode cX7_next 5 = .ok (.getfield 61, 3) := dk_180 0 61 (dk_at dksX7_next_0 5 rfl rfl)
theorem dX7_next_8 : decode cX7_next 8 = .ok (.if_icmp .ge 44, 3) := dk_162 0 44 (dk_at dksX7_next_0 8 rfl rfl)
theorem dX7_next_11 : decode cX7_next 11 = .ok (.aload_n 0, 1) := dk_42 (dk_at dksX7_next_0 11 rfl rfl)
theorem dX7_next_12 : decode cX7_next 12 = .ok (.getfield 19, 3) := dk_180 0 19 (dk_at dksX7_next_0 12 rfl rfl)
theorem dX7_next_15 : decode cX7_next 15 = .ok (.aload_n 0, 1) := dk_42 (dk_at dksX7_next_0 15 rfl rfl)
theorem dX7_next_16 : decode cX7_next 16 = .ok (.getfield 97, 3) := dk_180 0 97 (dk_at dksX7_next_0 16 rfl rfl)
theorem dX7_next_19 : decode cX7_next 19 = .ok (.iaload, 1) := dk_46 (dk_at dksX7_next_0 19 rfl rfl)
theorem dX7_next_20 : decode cX7_next 20 = .ok (.bipush 32, 2) := dk_16 32 (dk_at dksX7_next_0 20 rfl rfl)
theorem dX7_next_22 : decode cX7_next 22 = .ok (.if_icmp .eq 17, 3) := dk_159 0 17 (dk_at dksX7_next_1 0 rfl rfl)
theorem dX7_next_25 : decode cX7_next 25 = .ok (.aload_n 0, 1) := dk_42 (dk_at dksX7_next_1 3 rfl rfl)
theorem dX7_next_26 : decode cX7_next 26 = .ok (.getfield 19, 3) := dk_180 0 19 (dk_at dksX7_next_1 4 rfl rfl)
theorem dX7_next_29 : decode cX7_next 29 = .ok (.aload_n 0, 1) := dk_42 (dk_at dksX7_next_1 7 rfl rfl)
theorem dX7_next_30 : decode cX7_next 30 = .ok (.getfield 97, 3) := dk_180 0 97 (dk_at dksX7_next_1 8 rfl rfl)
theorem dX7_next_33 : decode cX7_next 33 = .ok (.iaload, 1) := dk_46 (dk_at dksX7_next_1 11 rfl rfl)
theorem dX7_next_34 : decode cX7_next 34 = .ok (.bipush 10, 2) := dk_16 10 (dk_at dksX7_next_1 12 rfl rfl)
theorem dX7_next_36 : decode cX7_next 36 = .ok (.if_icmp .ne 16, 3) := dk_160 0 16 (dk_at dksX7_next_1 14 rfl rfl)
theorem dX7_next_39 : decode cX7_next 39 = .ok (.aload_n 0, 1) := dk_42 (dk_at dksX7_next_1 17 rfl rfl)
theorem dX7_next_40 : decode cX7_next 40 = .ok (.dup, 1) := dk_89 (dk_at dksX7_next_1 18 rfl rfl)
theorem dX7_next_41 : decode cX7_next 41 = .ok (.getfield 97, 3) := dk_180 0 97 (dk_at dksX7_next_1 19 rfl rfl)
theorem dX7_next_44 : decode cX7_next 44 = .ok (.iconst 1, 1) := dk_4 (dk_at dksX7_next_1 22 rfl rfl)
theorem dX7_next_45 : decode cX7_next 45 = .ok (.iadd, 1) := dk_96 (dk_at dksX7_next_1 23 rfl rfl)
theorem dX7_next_46 : decode cX7_next 46 = .ok (.putfield 97, 3) := dk_181 0 97 (dk_at dksX7_next_2 0 rfl rfl)
theorem dX7_next_49 : decode cX7_next 49 = .ok (.goto (-49), 3) := dk_167 255 207 (dk_at dksX7_next_2 3 rfl rfl)
theorem dX7_next_52 : decode cX7_next 52 = .ok (.aload_n 0, 1) := dk_42 (dk_at dksX7_next_2 6 rfl rfl)
theorem dX7_next_53 : decode cX7_next 53 = .ok (.aload_n 0, 1) := dk_42 (dk_at dksX7_next_2 7 rfl rfl)
theorem dX7_next_54 : decode cX7_next 54 = .ok (.getfield 97, 3) := dk_180 0 97 (dk_at dksX7_next_2 8 rfl rfl)
theorem dX7_next_57 : decode cX7_next 57 = .ok (.putfield 100, 3) := dk_181 0 100 (dk_at dksX7_next_2 11 rfl rfl)
theorem dX7_next_60 : decode cX7_next 60 = .ok (.aload_n 0, 1) := dk_42 (dk_at dksX7_next_2 14 rfl rfl)
theorem dX7_next_61 : decode cX7_next 61 = .ok (.iconst 0, 1) := dk_3 (dk_at dksX7_next_2 15 rfl rfl)
theorem dX7_next_62 : decode cX7_next 62 = .ok (.putfield 103, 3) := dk_181 0 103 (dk_at dksX7_next_2 16 rfl rfl)
theorem dX7_next_65 : decode cX7_next 65 = .ok (.aload_n 0, 1) := dk_42 (dk_at dksX7_next_2 19 rfl rfl)
theorem dX7_next_66 : decode cX7_next 66 = .ok (.iconst 0, 1) := dk_3 (dk_at dksX7_next_2 20 rfl rfl)
theorem dX7_next_67 : decode cX7_next 67 = .ok (.putfield 106, 3) := dk_181 0 106 (dk_at dksX7_next_2 21 rfl rfl)
theorem dX7_next_70 : decode cX7_next 70 = .ok (.aload_n 0, 1) := dk_42 (dk_at dksX7_next_3 0 rfl rfl)
theorem dX7_next_71 : decode cX7_next 71 = .ok (.getfield 97, 3) := dk_180 0 97 (dk_at dksX7_next_3 1 rfl rfl)
theorem dX7_next_74 : decode cX7_next 74 = .ok (.aload_n 0, 1) := dk_42 (dk_at dksX7_next_3 4 rfl rfl)
theorem dX7_next_75 : decode cX7_next 75 = .ok (.getfield 61, 3) := dk_180 0 61 (dk_at dksX7_next_3 5 rfl rfl)
theorem dX7_next_78 : decode cX7_next 78 = .ok (.if_icmp .ne 4, 3) := dk_160 0 4 (dk_at dksX7_next_3 8 rfl rfl)
theorem dX7_next_81 : decode cX7_next 81 = .ok (.return_, 1) := dk_177 (dk_at dksX7_next_3 11 rfl rfl)
theorem dX7_next_82 : decode cX7_next 82 = .ok (.aload_n 0, 1) := dk_42 (dk_at dksX7_next_3 12 rfl rfl)
theorem dX7_next_83 : decode cX7_next 83 = .ok (.getfield 19, 3) := dk_180 0 19 (dk_at dksX7_next_3 13 rfl rfl)
theorem dX7_next_86 : decode cX7_next 86 = .ok (.aload_n 0, 1) := dk_42 (dk_at dksX7_next_3 16 rfl rfl)
theorem dX7_next_87 : decode cX7_next 87 = .ok (.getfield 97, 3) := dk_180 0 97 (dk_at dksX7_next_3 17 rfl rfl)
theorem dX7_next_90 : decode cX7_next 90 = .ok (.iaload, 1) := dk_46 (dk_at dksX7_next_3 20 rfl rfl)
theorem dX7_next_91 : decode cX7_next 91 = .ok (.istore_n 1, 1) := dk_60 (dk_at dksX7_next_3 21 rfl rfl)
theorem dX7_next_92 : decode cX7_next 92 = .ok (.iload_n 1, 1) := dk_27 (dk_at dksX7_next_3 22 rfl rfl)
theorem dX7_next_93 : decode cX7_next 93 = .ok (.bipush 97, 2) := dk_16 97 (dk_at dksX7_next_4 0 rfl rfl)
theorem dX7_next_95 : decode cX7_next 95 = .ok (.bipush 122, 2) := dk_16 122 (dk_at dksX7_next_4 2 rfl rfl)
theorem dX7_next_97 : decode cX7_next 97 = .ok (.invokestatic 72, 3) := dk_184 0 72 (dk_at dksX7_next_4 4 rfl rfl)
theorem dX7_next_100 : decode cX7_next 100 = .ok (.ifCond .eq 117, 3) := dk_153 0 117 (dk_at dksX7_next_4 7 rfl rfl)
theorem dX7_next_103 : decode cX7_next 103 = .ok (.aload_n 0, 1) := dk_42 (dk_at dksX7_next_4 10 rfl rfl)
theorem dX7_next_104 : decode cX7_next 104 = .ok (.getfield 97, 3) := dk_180 0 97 (dk_at dksX7_next_4 11 rfl rfl)
theorem dX7_next_107 : decode cX7_next 107 = .ok (.aload_n 0, 1) := dk_42 (dk_at dksX7_next_4 14 rfl rfl)
theorem dX7_next_108 : decode cX7_next 108 = .ok (.getfield 61, 3) := dk_180 0 61 (dk_at dksX7_next_4 15 rfl rfl)
theorem dX7_next_111 : decode cX7_next 111 = .ok (.if_icmp .ge 35, 3) := dk_162 0 35 (dk_at dksX7_next_4 18 rfl rfl)
theorem dX7_next_114 : decode cX7_next 114 = .ok (.aload_n 0, 1) := dk_42 (dk_at dksX7_next_4 21 rfl rfl)
theorem dX7_next_115 : decode cX7_next 115 = .ok (.getfield 19, 3) := dk_180 0 19 (dk_at dksX7_next_5 0 rfl rfl)
theorem dX7_next_118 : decode cX7_next 118 = .ok (.aload_n 0, 1) := dk_42 (dk_at dksX7_next_5 3 rfl rfl)
theorem dX7_next_119 : decode cX7_next 119 = .ok (.getfield 97, 3) := dk_180 0 97 (dk_at dksX7_next_5 4 rfl rfl)
theorem dX7_next_122 : decode cX7_next 122 = .ok (.iaload, 1) := dk_46 (dk_at dksX7_next_5 7 rfl rfl)
theorem dX7_next_123 : decode cX7_next 123 = .ok (.bipush 97, 2) := dk_16 97 (dk_at dksX7_next_5 8 rfl rfl)
theorem dX7_next_125 : decode cX7_next 125 = .ok (.bipush 122, 2) := dk_16 122 (dk_at dksX7_next_5 10 rfl rfl)
theorem dX7_next_127 : decode cX7_next 127 = .ok (.invokestatic 72, 3) := dk_184 0 72 (dk_at dksX7_next_5 12 rfl rfl)
theorem dX7_next_130 : decode cX7_next 130 = .ok (.ifCond .eq 16, 3) := dk_153 0 16 (dk_at dksX7_next_5 15 rfl rfl)
theorem dX7_next_133 : decode cX7_next 133 = .ok (.aload_n 0, 1) := dk_42 (dk_at dksX7_next_5 18 rfl rfl)
theorem dX7_next_134 : decode cX7_next 134 = .ok (.dup, 1) := dk_89 (dk_at dksX7_next_5 19 rfl rfl)
theorem dX7_next_135 : decode cX7_next 135 = .ok (.getfield 97, 3) := dk_180 0 97 (dk_at dksX7_next_5 20 rfl rfl)
theorem dX7_next_138 : decode cX7_next 138 = .ok (.iconst 1, 1) := dk_4 (dk_at dksX7_next_5 23 rfl rfl)
theorem dX7_next_139 : decode cX7_next 139 = .ok (.iadd, 1) := dk_96 (dk_at dksX7_next_6 0 rfl rfl)
theorem dX7_next_140 : decode cX7_next 140 = .ok (.putfield 97, 3) := dk_181 0 97 (dk_at dksX7_next_6 1 rfl rfl)
theorem dX7_next_143 : decode cX7_next 143 = .ok (.goto (-40), 3) := dk_167 255 216 (dk_at dksX7_next_6 4 rfl rfl)
theorem dX7_next_146 : decode cX7_next 146 = .ok (.aload_n 0, 1) := dk_42 (dk_at dksX7_next_6 7 rfl rfl)
theorem dX7_next_147 : decode cX7_next 147 = .ok (.aload_n 0, 1) := dk_42 (dk_at dksX7_next_6 8 rfl rfl)
theorem dX7_next_148 : decode cX7_next 148 = .ok (.getfield 100, 3) := dk_180 0 100 (dk_at dksX7_next_6 9 rfl rfl)
theorem dX7_next_151 : decode cX7_next 151 = .ok (.aload_n 0, 1) := dk_42 (dk_at dksX7_next_6 12 rfl rfl)
theorem dX7_next_152 : decode cX7_next 152 = .ok (.getfield 97, 3) := dk_180 0 97 (dk_at dksX7_next_6 13 rfl rfl)
theorem dX7_next_155 : decode cX7_next 155 = .ok (.invokevirtual 109, 3) := dk_182 0 109 (dk_at dksX7_next_6 16 rfl rfl)
theorem dX7_next_158 : decode cX7_next 158 = .ok (.istore_n 2, 1) := dk_61 (dk_at dksX7_next_6 19 rfl rfl)
theorem dX7_next_159 : decode cX7_next 159 = .ok (.aload_n 0, 1) := dk_42 (dk_at dksX7_next_6 20 rfl rfl)
theorem dX7_next_160 : decode cX7_next 160 = .ok (.iload_n 2, 1) := dk_28 (dk_at dksX7_next_6 21 rfl rfl)
theorem dX7_next_161 : decode cX7_next 161 = .ok (.iconst 3, 1) := dk_6 (dk_at dksX7_next_6 22 rfl rfl)
theorem dX7_next_162 : decode cX7_next 162 = .ok (.if_icmp .ge 7, 3) := dk_162 0 7 (dk_at dksX7_next_7 0 rfl rfl)
theorem dX7_next_165 : decode cX7_next 165 = .ok (.iconst 3, 1) := dk_6 (dk_at dksX7_next_7 3 rfl rfl)
theorem dX7_next_166 : decode cX7_next 166 = .ok (.goto 29, 3) := dk_167 0 29 (dk_at dksX7_next_7 4 rfl rfl)
theorem dX7_next_169 : decode cX7_next 169 = .ok (.iload_n 2, 1) := dk_28 (dk_at dksX7_next_7 7 rfl rfl)
theorem dX7_next_170 : decode cX7_next 170 = .ok (.bipush 9, 2) := dk_16 9 (dk_at dksX7_next_7 8 rfl rfl)
theorem dX7_next_172 : decode cX7_next 172 = .ok (.if_icmp .ge 7, 3) := dk_162 0 7 (dk_at dksX7_next_7 10 rfl rfl)
theorem dX7_next_175 : decode cX7_next 175 = .ok (.iconst 2, 1) := dk_5 (dk_at dksX7_next_7 13 rfl rfl)
theorem dX7_next_176 : decode cX7_next 176 = .ok (.goto 19, 3) := dk_167 0 19 (dk_at dksX7_next_7 14 rfl rfl)
theorem dX7_next_179 : decode cX7_next 179 = .ok (.iload_n 2, 1) := dk_28 (dk_at dksX7_next_7 17 rfl rfl)
theorem dX7_next_180 : decode cX7_next 180 = .ok (.bipush 12, 2) := dk_16 12 (dk_at dksX7_next_7 18 rfl rfl)
theorem dX7_next_182 : decode cX7_next 182 = .ok (.if_icmp .ne 7, 3) := dk_160 0 7 (dk_at dksX7_next_7 20 rfl rfl)
theorem dX7_next_185 : decode cX7_next 185 = .ok (.iconst (-1), 1) := dk_2 (dk_at dksX7_next_7 23 rfl rfl)
theorem dX7_next_186 : decode cX7_next 186 = .ok (.goto 9, 3) := dk_167 0 9 (dk_at dksX7_next_8 0 rfl rfl)
theorem dX7_next_189 : decode cX7_next 189 = .ok (.iconst 4, 1) := dk_7 (dk_at dksX7_next_8 3 rfl rfl)
theorem dX7_next_190 : decode cX7_next 190 = .ok (.iload_n 2, 1) := dk_28 (dk_at dksX7_next_8 4 rfl rfl)
theorem dX7_next_191 : decode cX7_next 191 = .ok (.iadd, 1) := dk_96 (dk_at dksX7_next_8 5 rfl rfl)
theorem dX7_next_192 : decode cX7_next 192 = .ok (.bipush 9, 2) := dk_16 9 (dk_at dksX7_next_8 6 rfl rfl)
theorem dX7_next_194 : decode cX7_next 194 = .ok (.isub, 1) := dk_100 (dk_at dksX7_next_8 8 rfl rfl)
theorem dX7_next_195 : decode cX7_next 195 = .ok (.putfield 103, 3) := dk_181 0 103 (dk_at dksX7_next_8 9 rfl rfl)
theorem dX7_next_198 : decode cX7_next 198 = .ok (.aload_n 0, 1) := dk_42 (dk_at dksX7_next_8 12 rfl rfl)
theorem dX7_next_199 : decode cX7_next 199 = .ok (.iload_n 2, 1) := dk_28 (dk_at dksX7_next_8 13 rfl rfl)
theorem dX7_next_200 : decode cX7_next 200 = .ok (.iconst 3, 1) := dk_6 (dk_at dksX7_next_8 14 rfl rfl)
theorem dX7_next_201 : decode cX7_next 201 = .ok (.if_icmp .ge 7, 3) := dk_162 0 7 (dk_at dksX7_next_8 15 rfl rfl)
theorem dX7_next_204 : decode cX7_next 204 = .ok (.iload_n 2, 1) := dk_28 (dk_at dksX7_next_8 18 rfl rfl)
theorem dX7_next_205 : decode cX7_next 205 = .ok (.goto 6, 3) := dk_167 0 6 (dk_at dksX7_next_8 19 rfl rfl)
theorem dX7_next_208 : decode cX7_next 208 = .ok (.iload_n 2, 1) := dk_28 (dk_at dksX7_next_8 22 rfl rfl)
theorem dX7_next_209 : decode cX7_next 209 = .ok (.iconst 3, 1) := dk_6 (dk_at dksX7_next_8 23 rfl rfl)
theorem dX7_next_210 : decode cX7_next 210 = .ok (.isub, 1) := dk_100 (dk_at dksX7_next_9 0 rfl rfl)
theorem dX7_next_211 : decode cX7_next 211 = .ok (.putfield 106, 3) := dk_181 0 106 (dk_at dksX7_next_9 1 rfl rfl)
theorem dX7_next_214 : decode cX7_next 214 = .ok (.goto 189, 3) := dk_167 0 189 (dk_at dksX7_next_9 4 rfl rfl)
theorem dX7_next_217 : decode cX7_next 217 = .ok (.iload_n 1, 1) := dk_27 (dk_at dksX7_next_9 7 rfl rfl)
theorem dX7_next_218 : decode cX7_next 218 = .ok (.bipush 48, 2) := dk_16 48 (dk_at dksX7_next_9 8 rfl rfl)
theorem dX7_next_220 : decode cX7_next 220 = .ok (.bipush 57, 2) := dk_16 57 (dk_at dksX7_next_9 10 rfl rfl)
theorem dX7_next_222 : decode cX7_next 222 = .ok (.invokestatic 72, 3) := dk_184 0 72 (dk_at dksX7_next_9 12 rfl rfl)
theorem dX7_next_225 : decode cX7_next 225 = .ok (.ifCond .eq 101, 3) := dk_153 0 101 (dk_at dksX7_next_9 15 rfl rfl)
theorem dX7_next_228 : decode cX7_next 228 = .ok (.iconst 0, 1) := dk_3 (dk_at dksX7_next_9 18 rfl rfl)
theorem dX7_next_229 : decode cX7_next 229 = .ok (.istore_n 2, 1) := dk_61 (dk_at dksX7_next_9 19 rfl rfl)
theorem dX7_next_230 : decode cX7_next 230 = .ok (.aload_n 0, 1) := dk_42 (dk_at dksX7_next_9 20 rfl rfl)
theorem dX7_next_231 : decode cX7_next 231 = .ok (.getfield 97, 3) := dk_180 0 97 (dk_at dksX7_next_9 21 rfl rfl)
theorem dX7_next_234 : decode cX7_next 234 = .ok (.aload_n 0, 1) := dk_42 (dk_at dksX7_next_10 0 rfl rfl)
theorem dX7_next_235 : decode cX7_next 235 = .ok (.getfield 61, 3) := dk_180 0 61 (dk_at dksX7_next_10 1 rfl rfl)
theorem dX7_next_238 : decode cX7_next 238 = .ok (.if_icmp .ge 71, 3) := dk_162 0 71 (dk_at dksX7_next_10 4 rfl rfl)
theorem dX7_next_241 : decode cX7_next 241 = .ok (.aload_n 0, 1) := dk_42 (dk_at dksX7_next_10 7 rfl rfl)
theorem dX7_next_242 : decode cX7_next 242 = .ok (.getfield 19, 3) := dk_180 0 19 (dk_at dksX7_next_10 8 rfl rfl)
theorem dX7_next_245 : decode cX7_next 245 = .ok (.aload_n 0, 1) := dk_42 (dk_at dksX7_next_10 11 rfl rfl)
theorem dX7_next_246 : decode cX7_next 246 = .ok (.getfield 97, 3) := dk_180 0 97 (dk_at dksX7_next_10 12 rfl rfl)
theorem dX7_next_249 : decode cX7_next 249 = .ok (.iaload, 1) := dk_46 (dk_at dksX7_next_10 15 rfl rfl)
theorem dX7_next_250 : decode cX7_next 250 = .ok (.bipush 48, 2) := dk_16 48 (dk_at dksX7_next_10 16 rfl rfl)
theorem dX7_next_252 : decode cX7_next 252 = .ok (.bipush 57, 2) := dk_16 57 (dk_at dksX7_next_10 18 rfl rfl)
theorem dX7_next_254 : decode cX7_next 254 = .ok (.invokestatic 72, 3) := dk_184 0 72 (dk_at dksX7_next_10 20 rfl rfl)
theorem dX7_next_257 : decode cX7_next 257 = .ok (.ifCond .eq 52, 3) := dk_153 0 52 (dk_at dksX7_next_11 0 rfl rfl)
theorem dX7_next_260 : decode cX7_next 260 = .ok (.aload_n 0, 1) := dk_42 (dk_at dksX7_next_11 3 rfl rfl)
theorem dX7_next_261 : decode cX7_next 261 = .ok (.iload_n 2, 1) := dk_28 (dk_at dksX7_next_11 4 rfl rfl)
theorem dX7_next_262 : decode cX7_next 262 = .ok (.iconst 4, 1) := dk_7 (dk_at dksX7_next_11 5 rfl rfl)
theorem dX7_next_263 : decode cX7_next 263 = .ok (.if_icmp .ge 26, 3) := dk_162 0 26 (dk_at dksX7_next_11 6 rfl rfl)
theorem dX7_next_266 : decode cX7_next 266 = .ok (.bipush 10, 2) := dk_16 10 (dk_at dksX7_next_11 9 rfl rfl)
theorem dX7_next_268 : decode cX7_next 268 = .ok (.aload_n 0, 1) := dk_42 (dk_at dksX7_next_11 11 rfl rfl)
theorem dX7_next_269 : decode cX7_next 269 = .ok (.getfield 106, 3) := dk_180 0 106 (dk_at dksX7_next_11 12 rfl rfl)
theorem dX7_next_272 : decode cX7_next 272 = .ok (.imul, 1) := dk_104 (dk_at dksX7_next_11 15 rfl rfl)
theorem dX7_next_273 : decode cX7_next 273 = .ok (.aload_n 0, 1) := dk_42 (dk_at dksX7_next_11 16 rfl rfl)
theorem dX7_next_274 : decode cX7_next 274 = .ok (.getfield 19, 3) := dk_180 0 19 (dk_at dksX7_next_11 17 rfl rfl)
theorem dX7_next_277 : decode cX7_next 277 = .ok (.aload_n 0, 1) := dk_42 (dk_at dksX7_next_11 20 rfl rfl)
theorem dX7_next_278 : decode cX7_next 278 = .ok (.getfield 97, 3) := dk_180 0 97 (dk_at dksX7_next_11 21 rfl rfl)
theorem dX7_next_281 : decode cX7_next 281 = .ok (.iaload, 1) := dk_46 (dk_at dksX7_next_12 0 rfl rfl)
theorem dX7_next_282 : decode cX7_next 282 = .ok (.iadd, 1) := dk_96 (dk_at dksX7_next_12 1 rfl rfl)
theorem dX7_next_283 : decode cX7_next 283 = .ok (.bipush 48, 2) := dk_16 48 (dk_at dksX7_next_12 2 rfl rfl)
theorem dX7_next_285 : decode cX7_next 285 = .ok (.isub, 1) := dk_100 (dk_at dksX7_next_12 4 rfl rfl)
theorem dX7_next_286 : decode cX7_next 286 = .ok (.goto 4, 3) := dk_167 0 4 (dk_at dksX7_next_12 5 rfl rfl)
theorem dX7_next_289 : decode cX7_next 289 = .ok (.iconst 0, 1) := dk_3 (dk_at dksX7_next_12 8 rfl rfl)
theorem dX7_next_290 : decode cX7_next 290 = .ok (.putfield 106, 3) := dk_181 0 106 (dk_at dksX7_next_12 9 rfl rfl)
theorem dX7_next_293 : decode cX7_next 293 = .ok (.iinc 2 1, 3) := dk_132 2 1 (dk_at dksX7_next_12 12 rfl rfl)
theorem dX7_next_296 : decode cX7_next 296 = .ok (.aload_n 0, 1) := dk_42 (dk_at dksX7_next_12 15 rfl rfl)
theorem dX7_next_297 : decode cX7_next 297 = .ok (.dup, 1) := dk_89 (dk_at dksX7_next_12 16 rfl rfl)
theorem dX7_next_298 : decode cX7_next 298 = .ok (.getfield 97, 3) := dk_180 0 97 (dk_at dksX7_next_12 17 rfl rfl)
theorem dX7_next_301 : decode cX7_next 301 = .ok (.iconst 1, 1) := dk_4 (dk_at dksX7_next_12 20 rfl rfl)
theorem dX7_next_302 : decode cX7_next 302 = .ok (.iadd, 1) := dk_96 (dk_at dksX7_next_12 21 rfl rfl)
theorem dX7_next_303 : decode cX7_next 303 = .ok (.putfield 97, 3) := dk_181 0 97 (dk_at dksX7_next_13 0 rfl rfl)
theorem dX7_next_306 : decode cX7_next 306 = .ok (.goto (-76), 3) := dk_167 255 180 (dk_at dksX7_next_13 3 rfl rfl)
theorem dX7_next_309 : decode cX7_next 309 = .ok (.aload_n 0, 1) := dk_42 (dk_at dksX7_next_13 6 rfl rfl)
theorem dX7_next_310 : decode cX7_next 310 = .ok (.iload_n 2, 1) := dk_28 (dk_at dksX7_next_13 7 rfl rfl)
theorem dX7_next_311 : decode cX7_next 311 = .ok (.iconst 4, 1) := dk_7 (dk_at dksX7_next_13 8 rfl rfl)
theorem dX7_next_312 : decode cX7_next 312 = .ok (.if_icmp .le 7, 3) := dk_164 0 7 (dk_at dksX7_next_13 9 rfl rfl)
theorem dX7_next_315 : decode cX7_next 315 = .ok (.iconst (-1), 1) := dk_2 (dk_at dksX7_next_13 12 rfl rfl)
theorem dX7_next_316 : decode cX7_next 316 = .ok (.goto 4, 3) := dk_167 0 4 (dk_at dksX7_next_13 13 rfl rfl)
theorem dX7_next_319 : decode cX7_next 319 = .ok (.iconst 1, 1) := dk_4 (dk_at dksX7_next_13 16 rfl rfl)
theorem dX7_next_320 : decode cX7_next 320 = .ok (.putfield 103, 3) := dk_181 0 103 (dk_at dksX7_next_13 17 rfl rfl)
theorem dX7_next_323 : decode cX7_next 323 = .ok (.goto 80, 3) := dk_167 0 80 (dk_at dksX7_next_13 20 rfl rfl)
theorem dX7_next_326 : decode cX7_next 326 = .ok (.iload_n 1, 1) := dk_27 (dk_at dksX7_next_13 23 rfl rfl)
theorem dX7_next_327 : decode cX7_next 327 = .ok (.bipush 40, 2) := dk_16 40 (dk_at dksX7_next_14 0 rfl rfl)
theorem dX7_next_329 : decode cX7_next 329 = .ok (.if_icmp .eq 45, 3) := dk_159 0 45 (dk_at dksX7_next_14 2 rfl rfl)
theorem dX7_next_332 : decode cX7_next 332 = .ok (.iload_n 1, 1) := dk_27 (dk_at dksX7_next_14 5 rfl rfl)
theorem dX7_next_333 : decode cX7_next 333 = .ok (.bipush 41, 2) := dk_16 41 (dk_at dksX7_next_14 6 rfl rfl)
theorem dX7_next_335 : decode cX7_next 335 = .ok (.if_icmp .eq 39, 3) := dk_159 0 39 (dk_at dksX7_next_14 8 rfl rfl)
theorem dX7_next_338 : decode cX7_next 338 = .ok (.iload_n 1, 1) := dk_27 (dk_at dksX7_next_14 11 rfl rfl)
theorem dX7_next_339 : decode cX7_next 339 = .ok (.bipush 59, 2) := dk_16 59 (dk_at dksX7_next_14 12 rfl rfl)
theorem dX7_next_341 : decode cX7_next 341 = .ok (.if_icmp .eq 33, 3) := dk_159 0 33 (dk_at dksX7_next_14 14 rfl rfl)
theorem dX7_next_344 : decode cX7_next 344 = .ok (.iload_n 1, 1) := dk_27 (dk_at dksX7_next_14 17 rfl rfl)
theorem dX7_next_345 : decode cX7_next 345 = .ok (.bipush 43, 2) := dk_16 43 (dk_at dksX7_next_14 18 rfl rfl)
theorem dX7_next_347 : decode cX7_next 347 = .ok (.if_icmp .eq 27, 3) := dk_159 0 27 (dk_at dksX7_next_14 20 rfl rfl)
theorem dX7_next_350 : decode cX7_next 350 = .ok (.iload_n 1, 1) := dk_27 (dk_at dksX7_next_14 23 rfl rfl)
theorem dX7_next_351 : decode cX7_next 351 = .ok (.bipush 45, 2) := dk_16 45 (dk_at dksX7_next_15 0 rfl rfl)
theorem dX7_next_353 : decode cX7_next 353 = .ok (.if_icmp .eq 21, 3) := dk_159 0 21 (dk_at dksX7_next_15 2 rfl rfl)
theorem dX7_next_356 : decode cX7_next 356 = .ok (.iload_n 1, 1) := dk_27 (dk_at dksX7_next_15 5 rfl rfl)
theorem dX7_next_357 : decode cX7_next 357 = .ok (.bipush 42, 2) := dk_16 42 (dk_at dksX7_next_15 6 rfl rfl)
theorem dX7_next_359 : decode cX7_next 359 = .ok (.if_icmp .eq 15, 3) := dk_159 0 15 (dk_at dksX7_next_15 8 rfl rfl)
theorem dX7_next_362 : decode cX7_next 362 = .ok (.iload_n 1, 1) := dk_27 (dk_at dksX7_next_15 11 rfl rfl)
theorem dX7_next_363 : decode cX7_next 363 = .ok (.bipush 60, 2) := dk_16 60 (dk_at dksX7_next_15 12 rfl rfl)
theorem dX7_next_365 : decode cX7_next 365 = .ok (.if_icmp .eq 9, 3) := dk_159 0 9 (dk_at dksX7_next_15 14 rfl rfl)
theorem dX7_next_368 : decode cX7_next 368 = .ok (.iload_n 1, 1) := dk_27 (dk_at dksX7_next_15 17 rfl rfl)
theorem dX7_next_369 : decode cX7_next 369 = .ok (.bipush 61, 2) := dk_16 61 (dk_at dksX7_next_15 18 rfl rfl)
theorem dX7_next_371 : decode cX7_next 371 = .ok (.if_icmp .ne 7, 3) := dk_160 0 7 (dk_at dksX7_next_15 20 rfl rfl)
theorem dX7_next_374 : decode cX7_next 374 = .ok (.iconst 1, 1) := dk_4 (dk_at dksX7_next_15 23 rfl rfl)
theorem dX7_next_375 : decode cX7_next 375 = .ok (.goto 4, 3) := dk_167 0 4 (dk_at dksX7_next_16 0 rfl rfl)
theorem dX7_next_378 : decode cX7_next 378 = .ok (.iconst 0, 1) := dk_3 (dk_at dksX7_next_16 3 rfl rfl)
theorem dX7_next_379 : decode cX7_next 379 = .ok (.istore_n 2, 1) := dk_61 (dk_at dksX7_next_16 4 rfl rfl)
theorem dX7_next_380 : decode cX7_next 380 = .ok (.aload_n 0, 1) := dk_42 (dk_at dksX7_next_16 5 rfl rfl)
theorem dX7_next_381 : decode cX7_next 381 = .ok (.iload_n 2, 1) := dk_28 (dk_at dksX7_next_16 6 rfl rfl)
theorem dX7_next_382 : decode cX7_next 382 = .ok (.ifCond .eq 7, 3) := dk_153 0 7 (dk_at dksX7_next_16 7 rfl rfl)
theorem dX7_next_385 : decode cX7_next 385 = .ok (.iload_n 1, 1) := dk_27 (dk_at dksX7_next_16 10 rfl rfl)
theorem dX7_next_386 : decode cX7_next 386 = .ok (.goto 4, 3) := dk_167 0 4 (dk_at dksX7_next_16 11 rfl rfl)
theorem dX7_next_389 : decode cX7_next 389 = .ok (.iconst (-1), 1) := dk_2 (dk_at dksX7_next_16 14 rfl rfl)
theorem dX7_next_390 : decode cX7_next 390 = .ok (.putfield 103, 3) := dk_181 0 103 (dk_at dksX7_next_16 15 rfl rfl)
theorem dX7_next_393 : decode cX7_next 393 = .ok (.aload_n 0, 1) := dk_42 (dk_at dksX7_next_16 18 rfl rfl)
theorem dX7_next_394 : decode cX7_next 394 = .ok (.dup, 1) := dk_89 (dk_at dksX7_next_16 19 rfl rfl)
theorem dX7_next_395 : decode cX7_next 395 = .ok (.getfield 97, 3) := dk_180 0 97 (dk_at dksX7_next_16 20 rfl rfl)
theorem dX7_next_398 : decode cX7_next 398 = .ok (.iconst 1, 1) := dk_4 (dk_at dksX7_next_16 23 rfl rfl)
theorem dX7_next_399 : decode cX7_next 399 = .ok (.iadd, 1) := dk_96 (dk_at dksX7_next_17 0 rfl rfl)
theorem dX7_next_400 : decode cX7_next 400 = .ok (.putfield 97, 3) := dk_181 0 97 (dk_at dksX7_next_17 1 rfl rfl)
theorem dX7_next_403 : decode cX7_next 403 = .ok (.return_, 1) := dk_177 (dk_at dksX7_next_17 4 rfl rfl)
abbrev cX7_in : ByteArray := prog_19_method_3_code
def yX7_in : MethodName := ⟨RX7, "in", "(III)Z"⟩
def dkwX7_in_0 : List UInt8 := [26, 27, 161, 0, 12, 26, 28, 163, 0, 7, 4, 167, 0, 4, 3, 172]
abbrev dktX7_in_0 : List UInt8 := dkwX7_in_0 ++ []
theorem dksX7_in_0 : cX7_in.data.toList.drop 0 = dktX7_in_0 := by decide +kernel
theorem dX7_in_0 : decode cX7_in 0 = .ok (.iload_n 0, 1) := dk_26 (dk_at dksX7_in_0 0 rfl rfl)
theorem dX7_in_1 : decode cX7_in 1 = .ok (.iload_n 1, 1) := dk_27 (dk_at dksX7_in_0 1 rfl rfl)
theorem dX7_in_2 : decode cX7_in 2 = .ok (.if_icmp .lt 12, 3) := dk_161 0 12 (dk_at dksX7_in_0 2 rfl rfl)
theorem dX7_in_5 : decode cX7_in 5 = .ok (.iload_n 0, 1) := dk_26 (dk_at dksX7_in_0 5 rfl rfl)
theorem dX7_in_6 : decode cX7_in 6 = .ok (.iload_n 2, 1) := dk_28 (dk_at dksX7_in_0 6 rfl rfl)
theorem dX7_in_7 : decode cX7_in 7 = .ok (.if_icmp .gt 7, 3) := dk_163 0 7 (dk_at dksX7_in_0 7 rfl rfl)
theorem dX7_in_10 : decode cX7_in 10 = .ok (.iconst 1, 1) := dk_4 (dk_at dksX7_in_0 10 rfl rfl)
theorem dX7_in_11 : decode cX7_in 11 = .ok (.goto 4, 3) := dk_167 0 4 (dk_at dksX7_in_0 11 rfl rfl)
theorem dX7_in_14 : decode cX7_in 14 = .ok (.iconst 0, 1) := dk_3 (dk_at dksX7_in_0 14 rfl rfl)
theorem dX7_in_15 : decode cX7_in 15 = .ok (.ireturn, 1) := dk_172 (dk_at dksX7_in_0 15 rfl rfl)
abbrev cX7_wordFrom : ByteArray := prog_19_method_13_code
def yX7_wordFrom : MethodName := ⟨RX7, "wordFrom", "(II)I"⟩
def dkwX7_wordFrom_4 : List UInt8 := [132, 3, 1, 167, 255, 160, 16, 12, 172]
abbrev dktX7_wordFrom_4 : List UInt8 := dkwX7_wordFrom_4 ++ []
def dkwX7_wordFrom_3 : List UInt8 := [160, 0, 7, 4, 167, 0, 4, 3, 54, 4, 132, 5, 1, 167, 255, 197, 21, 4, 153, 0, 5, 29, 172]
abbrev dktX7_wordFrom_3 : List UInt8 := dkwX7_wordFrom_3 ++ dktX7_wordFrom_4
def dkwX7_wordFrom_2 : List UInt8 := [96, 46, 27, 21, 5, 96, 28, 162, 0, 15, 42, 180, 0, 19, 27, 21, 5, 96, 46, 167, 0, 5, 16, 32]
abbrev dktX7_wordFrom_2 : List UInt8 := dkwX7_wordFrom_2 ++ dktX7_wordFrom_3
def dkwX7_wordFrom_1 : List UInt8 := [54, 5, 21, 5, 16, 8, 162, 0, 58, 21, 4, 153, 0, 53, 42, 180, 0, 46, 16, 8, 29, 104, 21, 5]
abbrev dktX7_wordFrom_1 : List UInt8 := dkwX7_wordFrom_1 ++ dktX7_wordFrom_2
def dkwX7_wordFrom_0 : List UInt8 := [3, 62, 29, 16, 12, 162, 0, 96, 28, 27, 100, 16, 8, 163, 0, 7, 4, 167, 0, 4, 3, 54, 4, 3]
abbrev dktX7_wordFrom_0 : List UInt8 := dkwX7_wordFrom_0 ++ dktX7_wordFrom_1
theorem dksX7_wordFrom_0 : cX7_wordFrom.data.toList.drop 0 = dktX7_wordFrom_0 := by decide +kernel
theorem dksX7_wordFrom_1 : cX7_wordFrom.data.toList.drop 24 = dktX7_wordFrom_1 := dk_seg dksX7_wordFrom_0 24 rfl rfl
theorem dksX7_wordFrom_2 : cX7_wordFrom.data.toList.drop 48 = dktX7_wordFrom_2 := dk_seg dksX7_wordFrom_1 24 rfl rfl
theorem dksX7_wordFrom_3 : cX7_wordFrom.data.toList.drop 72 = dktX7_wordFrom_3 := dk_seg dksX7_wordFrom_2 24 rfl rfl
theorem dksX7_wordFrom_4 : cX7_wordFrom.data.toList.drop 95 = dktX7_wordFrom_4 := dk_seg dksX7_wordFrom_3 23 rfl rfl
theorem dX7_wordFrom_0 : decode cX7_wordFrom 0 = .ok (.iconst 0, 1) := dk_3 (dk_at dksX7_wordFrom_0 0 rfl rfl)
theorem dX7_wordFrom_1 : decode cX7_wordFrom 1 = .ok (.istore_n 3, 1) := dk_62 (dk_at dksX7_wordFrom_0 1 rfl rfl)
theorem dX7_wordFrom_2 : decode cX7_wordFrom 2 = .ok (.iload_n 3, 1) := dk_29 (dk_at dksX7_wordFrom_0 2 rfl rfl)
theorem dX7_wordFrom_3 : decode cX7_wordFrom 3 = .ok (.bipush 12, 2) := dk_16 12 (dk_at dksX7_wordFrom_0 3 rfl rfl)
theorem dX7_wordFrom_5 : decode cX7_wordFrom 5 = .ok (.if_icmp .ge 96, 3) := dk_162 0 96 (dk_at dksX7_wordFrom_0 5 rfl rfl)
theorem dX7_wordFrom_8 : decode cX7_wordFrom 8 = .ok (.iload_n 2, 1) := dk_28 (dk_at dksX7_wordFrom_0 8 rfl rfl)
theorem dX7_wordFrom_9 : decode cX7_wordFrom 9 = .ok (.iload_n 1, 1) := dk_27 (dk_at dksX7_wordFrom_0 9 rfl rfl)
theorem dX7_wordFrom_10 : decode cX7_wordFrom 10 = .ok (.isub, 1) := dk_100 (dk_at dksX7_wordFrom_0 10 rfl rfl)
theorem dX7_wordFrom_11 : decode cX7_wordFrom 11 = .ok (.bipush 8, 2) := dk_16 8 (dk_at dksX7_wordFrom_0 11 rfl rfl)
theorem dX7_wordFrom_13 : decode cX7_wordFrom 13 = .ok (.if_icmp .gt 7, 3) := dk_163 0 7 (dk_at dksX7_wordFrom_0 13 rfl rfl)
theorem dX7_wordFrom_16 : decode cX7_wordFrom 16 = .ok (.iconst 1, 1) := dk_4 (dk_at dksX7_wordFrom_0 16 rfl rfl)
theorem dX7_wordFrom_17 : decode cX7_wordFrom 17 = .ok (.goto 4, 3) := dk_167 0 4 (dk_at dksX7_wordFrom_0 17 rfl rfl)
theorem dX7_wordFrom_20 : decode cX7_wordFrom 20 = .ok (.iconst 0, 1) := dk_3 (dk_at dksX7_wordFrom_0 20 rfl rfl)
theorem dX7_wordFrom_21 : decode cX7_wordFrom 21 = .ok (.istore 4, 2) := dk_54 4 (dk_at dksX7_wordFrom_0 21 rfl rfl)
theorem dX7_wordFrom_23 : decode cX7_wordFrom 23 = .ok (.iconst 0, 1) := dk_3 (dk_at dksX7_wordFrom_0 23 rfl rfl)
theorem dX7_wordFrom_24 : decode cX7_wordFrom 24 = .ok (.istore 5, 2) := dk_54 5 (dk_at dksX7_wordFrom_1 0 rfl rfl)
theorem dX7_wordFrom_26 : decode cX7_wordFrom 26 = .ok (.iload 5, 2) := dk_21 5 (dk_at dksX7_wordFrom_1 2 rfl rfl)
theorem dX7_wordFrom_28 : decode cX7_wordFrom 28 = .ok (.bipush 8, 2) := dk_16 8 (dk_at dksX7_wordFrom_1 4 rfl rfl)
theorem dX7_wordFrom_30 : decode cX7_wordFrom 30 = .ok (.if_icmp .ge 58, 3) := dk_162 0 58 (dk_at dksX7_wordFrom_1 6 rfl rfl)
theorem dX7_wordFrom_33 : decode cX7_wordFrom 33 = .ok (.iload 4, 2) := dk_21 4 (dk_at dksX7_wordFrom_1 9 rfl rfl)
theorem dX7_wordFrom_35 : decode cX7_wordFrom 35 = .ok (.ifCond .eq 53, 3) := dk_153 0 53 (dk_at dksX7_wordFrom_1 11 rfl rfl)
theorem dX7_wordFrom_38 : decode cX7_wordFrom 38 = .ok (.aload_n 0, 1) := dk_42 (dk_at dksX7_wordFrom_1 14 rfl rfl)
theorem dX7_wordFrom_39 : decode cX7_wordFrom 39 = .ok (.getfield 46, 3) := dk_180 0 46 (dk_at dksX7_wordFrom_1 15 rfl rfl)
theorem dX7_wordFrom_42 : decode cX7_wordFrom 42 = .ok (.bipush 8, 2) := dk_16 8 (dk_at dksX7_wordFrom_1 18 rfl rfl)
theorem dX7_wordFrom_44 : decode cX7_wordFrom 44 = .ok (.iload_n 3, 1) := dk_29 (dk_at dksX7_wordFrom_1 20 rfl rfl)
theorem dX7_wordFrom_45 : decode cX7_wordFrom 45 = .ok (.imul, 1) := dk_104 (dk_at dksX7_wordFrom_1 21 rfl rfl)
theorem dX7_wordFrom_46 : decode cX7_wordFrom 46 = .ok (.iload 5, 2) := dk_21 5 (dk_at dksX7_wordFrom_1 22 rfl rfl)
theorem dX7_wordFrom_48 : decode cX7_wordFrom 48 = .ok (.iadd, 1) := dk_96 (dk_at dksX7_wordFrom_2 0 rfl rfl)
theorem dX7_wordFrom_49 : decode cX7_wordFrom 49 = .ok (.iaload, 1) := dk_46 (dk_at dksX7_wordFrom_2 1 rfl rfl)
theorem dX7_wordFrom_50 : decode cX7_wordFrom 50 = .ok (.iload_n 1, 1) := dk_27 (dk_at dksX7_wordFrom_2 2 rfl rfl)
theorem dX7_wordFrom_51 : decode cX7_wordFrom 51 = .ok (.iload 5, 2) := dk_21 5 (dk_at dksX7_wordFrom_2 3 rfl rfl)
theorem dX7_wordFrom_53 : decode cX7_wordFrom 53 = .ok (.iadd, 1) := dk_96 (dk_at dksX7_wordFrom_2 5 rfl rfl)
theorem dX7_wordFrom_54 : decode cX7_wordFrom 54 = .ok (.iload_n 2, 1) := dk_28 (dk_at dksX7_wordFrom_2 6 rfl rfl)
theorem dX7_wordFrom_55 : decode cX7_wordFrom 55 = .ok (.if_icmp .ge 15, 3) := dk_162 0 15 (dk_at dksX7_wordFrom_2 7 rfl rfl)
theorem dX7_wordFrom_58 : decode cX7_wordFrom 58 = .ok (.aload_n 0, 1) := dk_42 (dk_at dksX7_wordFrom_2 10 rfl rfl)
theorem dX7_wordFrom_59 : decode cX7_wordFrom 59 = .ok (.getfield 19, 3) := dk_180 0 19 (dk_at dksX7_wordFrom_2 11 rfl rfl)
theorem dX7_wordFrom_62 : decode cX7_wordFrom 62 = .ok (.iload_n 1, 1) := dk_27 (dk_at dksX7_wordFrom_2 14 rfl rfl)
theorem dX7_wordFrom_63 : decode cX7_wordFrom 63 = .ok (.iload 5, 2) := dk_21 5 (dk_at dksX7_wordFrom_2 15 rfl rfl)
theorem dX7_wordFrom_65 : decode cX7_wordFrom 65 = .ok (.iadd, 1) := dk_96 (dk_at dksX7_wordFrom_2 17 rfl rfl)
theorem dX7_wordFrom_66 : decode cX7_wordFrom 66 = .ok (.iaload, 1) := dk_46 (dk_at dksX7_wordFrom_2 18 rfl rfl)
theorem dX7_wordFrom_67 : decode cX7_wordFrom 67 = .ok (.goto 5, 3) := dk_167 0 5 (dk_at dksX7_wordFrom_2 19 rfl rfl)
theorem dX7_wordFrom_70 : decode cX7_wordFrom 70 = .ok (.bipush 32, 2) := dk_16 32 (dk_at dksX7_wordFrom_2 22 rfl rfl)
theorem dX7_wordFrom_72 : decode cX7_wordFrom 72 = .ok (.if_icmp .ne 7, 3) := dk_160 0 7 (dk_at dksX7_wordFrom_3 0 rfl rfl)
theorem dX7_wordFrom_75 : decode cX7_wordFrom 75 = .ok (.iconst 1, 1) := dk_4 (dk_at dksX7_wordFrom_3 3 rfl rfl)
theorem dX7_wordFrom_76 : decode cX7_wordFrom 76 = .ok (.goto 4, 3) := dk_167 0 4 (dk_at dksX7_wordFrom_3 4 rfl rfl)
theorem dX7_wordFrom_79 : decode cX7_wordFrom 79 = .ok (.iconst 0, 1) := dk_3 (dk_at dksX7_wordFrom_3 7 rfl rfl)
theorem dX7_wordFrom_80 : decode cX7_wordFrom 80 = .ok (.istore 4, 2) := dk_54 4 (dk_at dksX7_wordFrom_3 8 rfl rfl)
theorem dX7_wordFrom_82 : decode cX7_wordFrom 82 = .ok (.iinc 5 1, 3) := dk_132 5 1 (dk_at dksX7_wordFrom_3 10 rfl rfl)
theorem dX7_wordFrom_85 : decode cX7_wordFrom 85 = .ok (.goto (-59), 3) := dk_167 255 197 (dk_at dksX7_wordFrom_3 13 rfl rfl)
theorem dX7_wordFrom_88 : decode cX7_wordFrom 88 = .ok (.iload 4, 2) := dk_21 4 (dk_at dksX7_wordFrom_3 16 rfl rfl)
theorem dX7_wordFrom_90 : decode cX7_wordFrom 90 = .ok (.ifCond .eq 5, 3) := dk_153 0 5 (dk_at dksX7_wordFrom_3 18 rfl rfl)
theorem dX7_wordFrom_93 : decode cX7_wordFrom 93 = .ok (.iload_n 3, 1) := dk_29 (dk_at dksX7_wordFrom_3 21 rfl rfl)
theorem dX7_wordFrom_94 : decode cX7_wordFrom 94 = .ok (.ireturn, 1) := dk_172 (dk_at dksX7_wordFrom_3 22 rfl rfl)
theorem dX7_wordFrom_95 : decode cX7_wordFrom 95 = .ok (.iinc 3 1, 3) := dk_132 3 1 (dk_at dksX7_wordFrom_4 0 rfl rfl)
theorem dX7_wordFrom_98 : decode cX7_wordFrom 98 = .ok (.goto (-96), 3) := dk_167 255 160 (dk_at dksX7_wordFrom_4 3 rfl rfl)
theorem dX7_wordFrom_101 : decode cX7_wordFrom 101 = .ok (.bipush 12, 2) := dk_16 12 (dk_at dksX7_wordFrom_4 6 rfl rfl)
theorem dX7_wordFrom_103 : decode cX7_wordFrom 103 = .ok (.ireturn, 1) := dk_172 (dk_at dksX7_wordFrom_4 8 rfl rfl)
abbrev cX7_eRead : ByteArray := prog_19_method_22_code
def yX7_eRead : MethodName := ⟨RX7, "eRead", "()Z"⟩
def dkwX7_eRead_11 : List UInt8 := [167, 0, 4, 3, 61, 167, 255, 7]
abbrev dktX7_eRead_11 : List UInt8 := dkwX7_eRead_11 ++ []
def dkwX7_eRead_10 : List UInt8 := [159, 0, 11, 42, 29, 182, 0, 145, 154, 0, 5, 3, 172, 4, 60, 29, 16, 12, 163, 0, 7, 4]
abbrev dktX7_eRead_10 : List UInt8 := dkwX7_eRead_10 ++ dktX7_eRead_11
def dkwX7_eRead_9 : List UInt8 := [180, 0, 122, 4, 100, 181, 0, 122, 42, 16, 7, 182, 0, 132, 167, 255, 44, 42, 182, 0, 142, 62, 29, 2]
abbrev dktX7_eRead_9 : List UInt8 := dkwX7_eRead_9 ++ dktX7_eRead_10
def dkwX7_eRead_8 : List UInt8 := [182, 0, 132, 42, 180, 0, 116, 154, 0, 5, 3, 172, 42, 89, 180, 0, 116, 4, 100, 181, 0, 116, 42, 89]
abbrev dktX7_eRead_8 : List UInt8 := dkwX7_eRead_8 ++ dktX7_eRead_9
def dkwX7_eRead_7 : List UInt8 := [180, 0, 116, 154, 0, 7, 4, 167, 0, 4, 3, 172, 42, 180, 0, 103, 16, 41, 160, 0, 46, 42, 4]
abbrev dktX7_eRead_7 : List UInt8 := dkwX7_eRead_7 ++ dktX7_eRead_8
def dkwX7_eRead_6 : List UInt8 := [172, 4, 61, 167, 255, 125, 3, 172, 42, 180, 0, 103, 16, 59, 160, 0, 21, 42, 4, 182, 0, 132, 42]
abbrev dktX7_eRead_6 : List UInt8 := dkwX7_eRead_6 ++ dktX7_eRead_7
def dkwX7_eRead_5 : List UInt8 := [172, 3, 61, 167, 255, 149, 42, 180, 0, 103, 16, 40, 160, 0, 18, 42, 3, 182, 0, 139, 154, 0, 5, 3]
abbrev dktX7_eRead_5 : List UInt8 := dkwX7_eRead_5 ++ dktX7_eRead_6
def dkwX7_eRead_4 : List UInt8 := [154, 255, 176, 3, 172, 42, 180, 0, 103, 16, 45, 160, 0, 19, 42, 16, 19, 182, 0, 139, 154, 0, 5, 3]
abbrev dktX7_eRead_4 : List UInt8 := dkwX7_eRead_4 ++ dktX7_eRead_5
def dkwX7_eRead_3 : List UInt8 := [60, 167, 255, 198, 42, 180, 0, 103, 16, 6, 160, 0, 18, 28, 153, 0, 14, 42, 16, 13, 182, 0, 139]
abbrev dktX7_eRead_3 : List UInt8 := dkwX7_eRead_3 ++ dktX7_eRead_4
def dkwX7_eRead_2 : List UInt8 := [18, 138, 42, 180, 0, 106, 96, 167, 0, 7, 42, 180, 0, 106, 182, 0, 125, 42, 16, 7, 182, 0, 132, 3]
abbrev dktX7_eRead_2 : List UInt8 := dkwX7_eRead_2 ++ dktX7_eRead_3
def dkwX7_eRead_1 : List UInt8 := [180, 0, 103, 4, 159, 0, 11, 42, 180, 0, 103, 5, 160, 0, 40, 42, 42, 180, 0, 103, 4, 160, 0, 13]
abbrev dktX7_eRead_1 : List UInt8 := dkwX7_eRead_1 ++ dktX7_eRead_2
def dkwX7_eRead_0 : List UInt8 := [42, 3, 181, 0, 116, 42, 3, 181, 0, 122, 4, 60, 4, 61, 42, 182, 0, 135, 27, 153, 0, 131, 42]
abbrev dktX7_eRead_0 : List UInt8 := dkwX7_eRead_0 ++ dktX7_eRead_1
theorem dksX7_eRead_0 : cX7_eRead.data.toList.drop 0 = dktX7_eRead_0 := by decide +kernel
theorem dksX7_eRead_1 : cX7_eRead.data.toList.drop 23 = dktX7_eRead_1 := dk_seg dksX7_eRead_0 23 rfl rfl
theorem dksX7_eRead_2 : cX7_eRead.data.toList.drop 47 = dktX7_eRead_2 := dk_seg dksX7_eRead_1 24 rfl rfl
theorem dksX7_eRead_3 : cX7_eRead.data.toList.drop 71 = dktX7_eRead_3 := dk_seg dksX7_eRead_2 24 rfl rfl
theorem dksX7_eRead_4 : cX7_eRead.data.toList.drop 94 = dktX7_eRead_4 := dk_seg dksX7_eRead_3 23 rfl rfl
theorem dksX7_eRead_5 : cX7_eRead.data.toList.drop 118 = dktX7_eRead_5 := dk_seg dksX7_eRead_4 24 rfl rfl
theorem dksX7_eRead_6 : cX7_eRead.data.toList.drop 142 = dktX7_eRead_6 := dk_seg dksX7_eRead_5 24 rfl rfl
theorem dksX7_eRead_7 : cX7_eRead.data.toList.drop 165 = dktX7_eRead_7 := dk_seg dksX7_eRead_6 23 rfl rfl
theorem dksX7_eRead_8 : cX7_eRead.data.toList.drop 188 = dktX7_eRead_8 := dk_seg dksX7_eRead_7 23 rfl rfl
theorem dksX7_eRead_9 : cX7_eRead.data.toList.drop 212 = dktX7_eRead_9 := dk_seg dksX7_eRead_8 24 rfl rfl
theorem dksX7_eRead_10 : cX7_eRead.data.toList.drop 236 = dktX7_eRead_10 := dk_seg dksX7_eRead_9 24 rfl rfl
theorem dksX7_eRead_11 : cX7_eRead.data.toList.drop 258 = dktX7_eRead_11 := dk_seg dksX7_eRead_10 22 rfl rfl
theorem dX7_eRead_0 : decode cX7_eRead 0 = .ok (.aload_n 0, 1) := dk_42 (dk_at dksX7_eRead_0 0 rfl rfl)
theorem dX7_eRead_1 : decode cX7_eRead 1 = .ok (.iconst 0, 1) := dk_3 (dk_at dksX7_eRead_0 1 rfl rfl)
theorem dX7_eRead_2 : decode cX7_eRead 2 = .ok (.putfield 116, 3) := dk_181 0 116 (dk_at dksX7_eRead_0 2 rfl rfl)
theorem dX7_eRead_5 : decode cX7_eRead 5 = .ok (.aload_n 0, 1) := dk_42 (dk_at dksX7_eRead_0 5 rfl rfl)
theorem dX7_eRead_6 : decode cX7_eRead 6 = .ok (.iconst 0, 1) := dk_3 (dk_at dksX7_eRead_0 6 rfl rfl)
theorem dX7_eRead_7 : decode cX7_eRead 7 = .ok (.putfield 122, 3) := dk_181 0 122 (dk_at dksX7_eRead_0 7 rfl rfl)
theorem dX7_eRead_10 : decode cX7_eRead 10 = .ok (.iconst 1, 1) := dk_4 (dk_at dksX7_eRead_0 10 rfl rfl)
theorem dX7_eRead_11 : decode cX7_eRead 11 = .ok (.istore_n 1, 1) := dk_60 (dk_at dksX7_eRead_0 11 rfl rfl)
theorem dX7_eRead_12 : decode cX7_eRead 12 = .ok (.iconst 1, 1) := dk_4 (dk_at dksX7_eRead_0 12 rfl rfl)
theorem dX7_eRead_13 : decode cX7_eRead 13 = .ok (.istore_n 2, 1) := dk_61 (dk_at dksX7_eRead_0 13 rfl rfl)
theorem dX7_eRead_14 : decode cX7_eRead 14 = .ok (.aload_n 0, 1) := dk_42 (dk_at dksX7_eRead_0 14 rfl rfl)
theorem dX7_eRead_15 : decode cX7_eRead 15 = .ok (.invokevirtual 135, 3) := dk_182 0 135 (dk_at dksX7_eRead_0 15 rfl rfl)
theorem dX7_eRead_18 : decode cX7_eRead 18 = .ok (.iload_n 1, 1) := dk_27 (dk_at dksX7_eRead_0 18 rfl rfl)
theorem dX7_eRead_19 : decode cX7_eRead 19 = .ok (.ifCond .eq 131, 3) := dk_153 0 131 (dk_at dksX7_eRead_0 19 rfl rfl)
theorem dX7_eRead_22 : decode cX7_eRead 22 = .ok (.aload_n 0, 1) := dk_42 (dk_at dksX7_eRead_0 22 rfl rfl)
theorem dX7_eRead_23 : decode cX7_eRead 23 = .ok (.getfield 103, 3) := dk_180 0 103 (dk_at dksX7_eRead_1 0 rfl rfl)
theorem dX7_eRead_26 : decode cX7_eRead 26 = .ok (.iconst 1, 1) := dk_4 (dk_at dksX7_eRead_1 3 rfl rfl)
theorem dX7_eRead_27 : decode cX7_eRead 27 = .ok (.if_icmp .eq 11, 3) := dk_159 0 11 (dk_at dksX7_eRead_1 4 rfl rfl)
theorem dX7_eRead_30 : decode cX7_eRead 30 = .ok (.aload_n 0, 1) := dk_42 (dk_at dksX7_eRead_1 7 rfl rfl)
theorem dX7_eRead_31 : decode cX7_eRead 31 = .ok (.getfield 103, 3) := dk_180 0 103 (dk_at dksX7_eRead_1 8 rfl rfl)
theorem dX7_eRead_34 : decode cX7_eRead 34 = .ok (.iconst 2, 1) := dk_5 (dk_at dksX7_eRead_1 11 rfl rfl)
theorem dX7_eRead_35 : decode cX7_eRead 35 = .ok (.if_icmp .ne 40, 3) := dk_160 0 40 (dk_at dksX7_eRead_1 12 rfl rfl)
theorem dX7_eRead_38 : decode cX7_eRead 38 = .ok (.aload_n 0, 1) := dk_42 (dk_at dksX7_eRead_1 15 rfl rfl)
theorem dX7_eRead_39 : decode cX7_eRead 39 = .ok (.aload_n 0, 1) := dk_42 (dk_at dksX7_eRead_1 16 rfl rfl)
theorem dX7_eRead_40 : decode cX7_eRead 40 = .ok (.getfield 103, 3) := dk_180 0 103 (dk_at dksX7_eRead_1 17 rfl rfl)
theorem dX7_eRead_43 : decode cX7_eRead 43 = .ok (.iconst 1, 1) := dk_4 (dk_at dksX7_eRead_1 20 rfl rfl)
theorem dX7_eRead_44 : decode cX7_eRead 44 = .ok (.if_icmp .ne 13, 3) := dk_160 0 13 (dk_at dksX7_eRead_1 21 rfl rfl)
theorem dX7_eRead_47 : decode cX7_eRead 47 = .ok (.ldc 138, 2) := dk_18 138 (dk_at dksX7_eRead_2 0 rfl rfl)
theorem dX7_eRead_49 : decode cX7_eRead 49 = .ok (.aload_n 0, 1) := dk_42 (dk_at dksX7_eRead_2 2 rfl rfl)
theorem dX7_eRead_50 : decode cX7_eRead 50 = .ok (.getfield 106, 3) := dk_180 0 106 (dk_at dksX7_eRead_2 3 rfl rfl)
theorem dX7_eRead_53 : decode cX7_eRead 53 = .ok (.iadd, 1) := dk_96 (dk_at dksX7_eRead_2 6 rfl rfl)
theorem dX7_eRead_54 : decode cX7_eRead 54 = .ok (.goto 7, 3) := dk_167 0 7 (dk_at dksX7_eRead_2 7 rfl rfl)
theorem dX7_eRead_57 : decode cX7_eRead 57 = .ok (.aload_n 0, 1) := dk_42 (dk_at dksX7_eRead_2 10 rfl rfl)
theorem dX7_eRead_58 : decode cX7_eRead 58 = .ok (.getfield 106, 3) := dk_180 0 106 (dk_at dksX7_eRead_2 11 rfl rfl)
theorem dX7_eRead_61 : decode cX7_eRead 61 = .ok (.invokevirtual 125, 3) := dk_182 0 125 (dk_at dksX7_eRead_2 14 rfl rfl)
theorem dX7_eRead_64 : decode cX7_eRead 64 = .ok (.aload_n 0, 1) := dk_42 (dk_at dksX7_eRead_2 17 rfl rfl)
theorem dX7_eRead_65 : decode cX7_eRead 65 = .ok (.bipush 7, 2) := dk_16 7 (dk_at dksX7_eRead_2 18 rfl rfl)
theorem dX7_eRead_67 : decode cX7_eRead 67 = .ok (.invokevirtual 132, 3) := dk_182 0 132 (dk_at dksX7_eRead_2 20 rfl rfl)
theorem dX7_eRead_70 : decode cX7_eRead 70 = .ok (.iconst 0, 1) := dk_3 (dk_at dksX7_eRead_2 23 rfl rfl)
theorem dX7_eRead_71 : decode cX7_eRead 71 = .ok (.istore_n 1, 1) := dk_60 (dk_at dksX7_eRead_3 0 rfl rfl)
theorem dX7_eRead_72 : decode cX7_eRead 72 = .ok (.goto (-58), 3) := dk_167 255 198 (dk_at dksX7_eRead_3 1 rfl rfl)
theorem dX7_eRead_75 : decode cX7_eRead 75 = .ok (.aload_n 0, 1) := dk_42 (dk_at dksX7_eRead_3 4 rfl rfl)
theorem dX7_eRead_76 : decode cX7_eRead 76 = .ok (.getfield 103, 3) := dk_180 0 103 (dk_at dksX7_eRead_3 5 rfl rfl)
theorem dX7_eRead_79 : decode cX7_eRead 79 = .ok (.bipush 6, 2) := dk_16 6 (dk_at dksX7_eRead_3 8 rfl rfl)
theorem dX7_eRead_81 : decode cX7_eRead 81 = .ok (.if_icmp .ne 18, 3) := dk_160 0 18 (dk_at dksX7_eRead_3 10 rfl rfl)
theorem dX7_eRead_84 : decode cX7_eRead 84 = .ok (.iload_n 2, 1) := dk_28 (dk_at dksX7_eRead_3 13 rfl rfl)
theorem dX7_eRead_85 : decode cX7_eRead 85 = .ok (.ifCond .eq 14, 3) := dk_153 0 14 (dk_at dksX7_eRead_3 14 rfl rfl)
theorem dX7_eRead_88 : decode cX7_eRead 88 = .ok (.aload_n 0, 1) := dk_42 (dk_at dksX7_eRead_3 17 rfl rfl)
theorem dX7_eRead_89 : decode cX7_eRead 89 = .ok (.bipush 13, 2) := dk_16 13 (dk_at dksX7_eRead_3 18 rfl rfl)
theorem dX7_eRead_91 : decode cX7_eRead 91 = .ok (.invokevirtual 139, 3) := dk_182 0 139 (dk_at dksX7_eRead_3 20 rfl rfl)
theorem dX7_eRead_94 : decode cX7_eRead 94 = .ok (.ifCond .ne (-80), 3) := dk_154 255 176 (dk_at dksX7_eRead_4 0 rfl rfl)
theorem dX7_eRead_97 : decode cX7_eRead 97 = .ok (.iconst 0, 1) := dk_3 (dk_at dksX7_eRead_4 3 rfl rfl)
theorem dX7_eRead_98 : decode cX7_eRead 98 = .ok (.ireturn, 1) := dk_172 (dk_at dksX7_eRead_4 4 rfl rfl)
theorem dX7_eRead_99 : decode cX7_eRead 99 = .ok (.aload_n 0, 1) := dk_42 (dk_at dksX7_eRead_4 5 rfl rfl)
theorem dX7_eRead_100 : decode cX7_eRead 100 = .ok (.getfield 103, 3) := dk_180 0 103 (dk_at dksX7_eRead_4 6 rfl rfl)
theorem dX7_eRead_103 : decode cX7_eRead 103 = .ok (.bipush 45, 2) := dk_16 45 (dk_at dksX7_eRead_4 9 rfl rfl)
theorem dX7_eRead_105 : decode cX7_eRead 105 = .ok (.if_icmp .ne 19, 3) := dk_160 0 19 (dk_at dksX7_eRead_4 11 rfl rfl)
theorem dX7_eRead_108 : decode cX7_eRead 108 = .ok (.aload_n 0, 1) := dk_42 (dk_at dksX7_eRead_4 14 rfl rfl)
theorem dX7_eRead_109 : decode cX7_eRead 109 = .ok (.bipush 19, 2) := dk_16 19 (dk_at dksX7_eRead_4 15 rfl rfl)
theorem dX7_eRead_111 : decode cX7_eRead 111 = .ok (.invokevirtual 139, 3) := dk_182 0 139 (dk_at dksX7_eRead_4 17 rfl rfl)
theorem dX7_eRead_114 : decode cX7_eRead 114 = .ok (.ifCond .ne 5, 3) := dk_154 0 5 (dk_at dksX7_eRead_4 20 rfl rfl)
theorem dX7_eRead_117 : decode cX7_eRead 117 = .ok (.iconst 0, 1) := dk_3 (dk_at dksX7_eRead_4 23 rfl rfl)
theorem dX7_eRead_118 : decode cX7_eRead 118 = .ok (.ireturn, 1) := dk_172 (dk_at dksX7_eRead_5 0 rfl rfl)
theorem dX7_eRead_119 : decode cX7_eRead 119 = .ok (.iconst 0, 1) := dk_3 (dk_at dksX7_eRead_5 1 rfl rfl)
theorem dX7_eRead_120 : decode cX7_eRead 120 = .ok (.istore_n 2, 1) := dk_61 (dk_at dksX7_eRead_5 2 rfl rfl)
theorem dX7_eRead_121 : decode cX7_eRead 121 = .ok (.goto (-107), 3) := dk_167 255 149 (dk_at dksX7_eRead_5 3 rfl rfl)
theorem dX7_eRead_124 : decode cX7_eRead 124 = .ok (.aload_n 0, 1) := dk_42 (dk_at dksX7_eRead_5 6 rfl rfl)
theorem dX7_eRead_125 : decode cX7_eRead 125 = .ok (.getfield 103, 3) := dk_180 0 103 (dk_at dksX7_eRead_5 7 rfl rfl)
theorem dX7_eRead_128 : decode cX7_eRead 128 = .ok (.bipush 40, 2) := dk_16 40 (dk_at dksX7_eRead_5 10 rfl rfl)
theorem dX7_eRead_130 : decode cX7_eRead 130 = .ok (.if_icmp .ne 18, 3) := dk_160 0 18 (dk_at dksX7_eRead_5 12 rfl rfl)
theorem dX7_eRead_133 : decode cX7_eRead 133 = .ok (.aload_n 0, 1) := dk_42 (dk_at dksX7_eRead_5 15 rfl rfl)
theorem dX7_eRead_134 : decode cX7_eRead 134 = .ok (.iconst 0, 1) := dk_3 (dk_at dksX7_eRead_5 16 rfl rfl)
theorem dX7_eRead_135 : decode cX7_eRead 135 = .ok (.invokevirtual 139, 3) := dk_182 0 139 (dk_at dksX7_eRead_5 17 rfl rfl)
theorem dX7_eRead_138 : decode cX7_eRead 138 = .ok (.ifCond .ne 5, 3) := dk_154 0 5 (dk_at dksX7_eRead_5 20 rfl rfl)
theorem dX7_eRead_141 : decode cX7_eRead 141 = .ok (.iconst 0, 1) := dk_3 (dk_at dksX7_eRead_5 23 rfl rfl)
theorem dX7_eRead_142 : decode cX7_eRead 142 = .ok (.ireturn, 1) := dk_172 (dk_at dksX7_eRead_6 0 rfl rfl)
theorem dX7_eRead_143 : decode cX7_eRead 143 = .ok (.iconst 1, 1) := dk_4 (dk_at dksX7_eRead_6 1 rfl rfl)
theorem dX7_eRead_144 : decode cX7_eRead 144 = .ok (.istore_n 2, 1) := dk_61 (dk_at dksX7_eRead_6 2 rfl rfl)
theorem dX7_eRead_145 : decode cX7_eRead 145 = .ok (.goto (-131), 3) := dk_167 255 125 (dk_at dksX7_eRead_6 3 rfl rfl)
theorem dX7_eRead_148 : decode cX7_eRead 148 = .ok (.iconst 0, 1) := dk_3 (dk_at dksX7_eRead_6 6 rfl rfl)
theorem dX7_eRead_149 : decode cX7_eRead 149 = .ok (.ireturn, 1) := dk_172 (dk_at dksX7_eRead_6 7 rfl rfl)
theorem dX7_eRead_150 : decode cX7_eRead 150 = .ok (.aload_n 0, 1) := dk_42 (dk_at dksX7_eRead_6 8 rfl rfl)
theorem dX7_eRead_151 : decode cX7_eRead 151 = .ok (.getfield 103, 3) := dk_180 0 103 (dk_at dksX7_eRead_6 9 rfl rfl)
theorem dX7_eRead_154 : decode cX7_eRead 154 = .ok (.bipush 59, 2) := dk_16 59 (dk_at dksX7_eRead_6 12 rfl rfl)
theorem dX7_eRead_156 : decode cX7_eRead 156 = .ok (.if_icmp .ne 21, 3) := dk_160 0 21 (dk_at dksX7_eRead_6 14 rfl rfl)
theorem dX7_eRead_159 : decode cX7_eRead 159 = .ok (.aload_n 0, 1) := dk_42 (dk_at dksX7_eRead_6 17 rfl rfl)
theorem dX7_eRead_160 : decode cX7_eRead 160 = .ok (.iconst 1, 1) := dk_4 (dk_at dksX7_eRead_6 18 rfl rfl)
theorem dX7_eRead_161 : decode cX7_eRead 161 = .ok (.invokevirtual 132, 3) := dk_182 0 132 (dk_at dksX7_eRead_6 19 rfl rfl)
theorem dX7_eRead_164 : decode cX7_eRead 164 = .ok (.aload_n 0, 1) := dk_42 (dk_at dksX7_eRead_6 22 rfl rfl)
theorem dX7_eRead_165 : decode cX7_eRead 165 = .ok (.getfield 116, 3) := dk_180 0 116 (dk_at dksX7_eRead_7 0 rfl rfl)
theorem dX7_eRead_168 : decode cX7_eRead 168 = .ok (.ifCond .ne 7, 3) := dk_154 0 7 (dk_at dksX7_eRead_7 3 rfl rfl)
theorem dX7_eRead_171 : decode cX7_eRead 171 = .ok (.iconst 1, 1) := dk_4 (dk_at dksX7_eRead_7 6 rfl rfl)
theorem dX7_eRead_172 : decode cX7_eRead 172 = .ok (.goto 4, 3) := dk_167 0 4 (dk_at dksX7_eRead_7 7 rfl rfl)
theorem dX7_eRead_175 : decode cX7_eRead 175 = .ok (.iconst 0, 1) := dk_3 (dk_at dksX7_eRead_7 10 rfl rfl)
theorem dX7_eRead_176 : decode cX7_eRead 176 = .ok (.ireturn, 1) := dk_172 (dk_at dksX7_eRead_7 11 rfl rfl)
theorem dX7_eRead_177 : decode cX7_eRead 177 = .ok (.aload_n 0, 1) := dk_42 (dk_at dksX7_eRead_7 12 rfl rfl)
theorem dX7_eRead_178 : decode cX7_eRead 178 = .ok (.getfield 103, 3) := dk_180 0 103 (dk_at dksX7_eRead_7 13 rfl rfl)
theorem dX7_eRead_181 : decode cX7_eRead 181 = .ok (.bipush 41, 2) := dk_16 41 (dk_at dksX7_eRead_7 16 rfl rfl)
theorem dX7_eRead_183 : decode cX7_eRead 183 = .ok (.if_icmp .ne 46, 3) := dk_160 0 46 (dk_at dksX7_eRead_7 18 rfl rfl)
theorem dX7_eRead_186 : decode cX7_eRead 186 = .ok (.aload_n 0, 1) := dk_42 (dk_at dksX7_eRead_7 21 rfl rfl)
theorem dX7_eRead_187 : decode cX7_eRead 187 = .ok (.iconst 1, 1) := dk_4 (dk_at dksX7_eRead_7 22 rfl rfl)
theorem dX7_eRead_188 : decode cX7_eRead 188 = .ok (.invokevirtual 132, 3) := dk_182 0 132 (dk_at dksX7_eRead_8 0 rfl rfl)
theorem dX7_eRead_191 : decode cX7_eRead 191 = .ok (.aload_n 0, 1) := dk_42 (dk_at dksX7_eRead_8 3 rfl rfl)
theorem dX7_eRead_192 : decode cX7_eRead 192 = .ok (.getfield 116, 3) := dk_180 0 116 (dk_at dksX7_eRead_8 4 rfl rfl)
theorem dX7_eRead_195 : decode cX7_eRead 195 = .ok (.ifCond .ne 5, 3) := dk_154 0 5 (dk_at dksX7_eRead_8 7 rfl rfl)
theorem dX7_eRead_198 : decode cX7_eRead 198 = .ok (.iconst 0, 1) := dk_3 (dk_at dksX7_eRead_8 10 rfl rfl)
theorem dX7_eRead_199 : decode cX7_eRead 199 = .ok (.ireturn, 1) := dk_172 (dk_at dksX7_eRead_8 11 rfl rfl)
theorem dX7_eRead_200 : decode cX7_eRead 200 = .ok (.aload_n 0, 1) := dk_42 (dk_at dksX7_eRead_8 12 rfl rfl)
theorem dX7_eRead_201 : decode cX7_eRead 201 = .ok (.dup, 1) := dk_89 (dk_at dksX7_eRead_8 13 rfl rfl)
theorem dX7_eRead_202 : decode cX7_eRead 202 = .ok (.getfield 116, 3) := dk_180 0 116 (dk_at dksX7_eRead_8 14 rfl rfl)
theorem dX7_eRead_205 : decode cX7_eRead 205 = .ok (.iconst 1, 1) := dk_4 (dk_at dksX7_eRead_8 17 rfl rfl)
theorem dX7_eRead_206 : decode cX7_eRead 206 = .ok (.isub, 1) := dk_100 (dk_at dksX7_eRead_8 18 rfl rfl)
theorem dX7_eRead_207 : decode cX7_eRead 207 = .ok (.putfield 116, 3) := dk_181 0 116 (dk_at dksX7_eRead_8 19 rfl rfl)
theorem dX7_eRead_210 : decode cX7_eRead 210 = .ok (.aload_n 0, 1) := dk_42 (dk_at dksX7_eRead_8 22 rfl rfl)
theorem dX7_eRead_211 : decode cX7_eRead 211 = .ok (.dup, 1) := dk_89 (dk_at dksX7_eRead_8 23 rfl rfl)
theorem dX7_eRead_212 : decode cX7_eRead 212 = .ok (.getfield 122, 3) := dk_180 0 122 (dk_at dksX7_eRead_9 0 rfl rfl)
theorem dX7_eRead_215 : decode cX7_eRead 215 = .ok (.iconst 1, 1) := dk_4 (dk_at dksX7_eRead_9 3 rfl rfl)
theorem dX7_eRead_216 : decode cX7_eRead 216 = .ok (.isub, 1) := dk_100 (dk_at dksX7_eRead_9 4 rfl rfl)
theorem dX7_eRead_217 : decode cX7_eRead 217 = .ok (.putfield 122, 3) := dk_181 0 122 (dk_at dksX7_eRead_9 5 rfl rfl)
theorem dX7_eRead_220 : decode cX7_eRead 220 = .ok (.aload_n 0, 1) := dk_42 (dk_at dksX7_eRead_9 8 rfl rfl)
theorem dX7_eRead_221 : decode cX7_eRead 221 = .ok (.bipush 7, 2) := dk_16 7 (dk_at dksX7_eRead_9 9 rfl rfl)
theorem dX7_eRead_223 : decode cX7_eRead 223 = .ok (.invokevirtual 132, 3) := dk_182 0 132 (dk_at dksX7_eRead_9 11 rfl rfl)
theorem dX7_eRead_226 : decode cX7_eRead 226 = .ok (.goto (-212), 3) := dk_167 255 44 (dk_at dksX7_eRead_9 14 rfl rfl)
theorem dX7_eRead_229 : decode cX7_eRead 229 = .ok (.aload_n 0, 1) := dk_42 (dk_at dksX7_eRead_9 17 rfl rfl)
theorem dX7_eRead_230 : decode cX7_eRead 230 = .ok (.invokevirtual 142, 3) := dk_182 0 142 (dk_at dksX7_eRead_9 18 rfl rfl)
theorem dX7_eRead_233 : decode cX7_eRead 233 = .ok (.istore_n 3, 1) := dk_62 (dk_at dksX7_eRead_9 21 rfl rfl)
theorem dX7_eRead_234 : decode cX7_eRead 234 = .ok (.iload_n 3, 1) := dk_29 (dk_at dksX7_eRead_9 22 rfl rfl)
theorem dX7_eRead_235 : decode cX7_eRead 235 = .ok (.iconst (-1), 1) := dk_2 (dk_at dksX7_eRead_9 23 rfl rfl)
theorem dX7_eRead_236 : decode cX7_eRead 236 = .ok (.if_icmp .eq 11, 3) := dk_159 0 11 (dk_at dksX7_eRead_10 0 rfl rfl)
theorem dX7_eRead_239 : decode cX7_eRead 239 = .ok (.aload_n 0, 1) := dk_42 (dk_at dksX7_eRead_10 3 rfl rfl)
theorem dX7_eRead_240 : decode cX7_eRead 240 = .ok (.iload_n 3, 1) := dk_29 (dk_at dksX7_eRead_10 4 rfl rfl)
theorem dX7_eRead_241 : decode cX7_eRead 241 = .ok (.invokevirtual 145, 3) := dk_182 0 145 (dk_at dksX7_eRead_10 5 rfl rfl)
theorem dX7_eRead_244 : decode cX7_eRead 244 = .ok (.ifCond .ne 5, 3) := dk_154 0 5 (dk_at dksX7_eRead_10 8 rfl rfl)
theorem dX7_eRead_247 : decode cX7_eRead 247 = .ok (.iconst 0, 1) := dk_3 (dk_at dksX7_eRead_10 11 rfl rfl)
theorem dX7_eRead_248 : decode cX7_eRead 248 = .ok (.ireturn, 1) := dk_172 (dk_at dksX7_eRead_10 12 rfl rfl)
theorem dX7_eRead_249 : decode cX7_eRead 249 = .ok (.iconst 1, 1) := dk_4 (dk_at dksX7_eRead_10 13 rfl rfl)
theorem dX7_eRead_250 : decode cX7_eRead 250 = .ok (.istore_n 1, 1) := dk_60 (dk_at dksX7_eRead_10 14 rfl rfl)
theorem dX7_eRead_251 : decode cX7_eRead 251 = .ok (.iload_n 3, 1) := dk_29 (dk_at dksX7_eRead_10 15 rfl rfl)
theorem dX7_eRead_252 : decode cX7_eRead 252 = .ok (.bipush 12, 2) := dk_16 12 (dk_at dksX7_eRead_10 16 rfl rfl)
theorem dX7_eRead_254 : decode cX7_eRead 254 = .ok (.if_icmp .gt 7, 3) := dk_163 0 7 (dk_at dksX7_eRead_10 18 rfl rfl)
theorem dX7_eRead_257 : decode cX7_eRead 257 = .ok (.iconst 1, 1) := dk_4 (dk_at dksX7_eRead_10 21 rfl rfl)
theorem dX7_eRead_258 : decode cX7_eRead 258 = .ok (.goto 4, 3) := dk_167 0 4 (dk_at dksX7_eRead_11 0 rfl rfl)
theorem dX7_eRead_261 : decode cX7_eRead 261 = .ok (.iconst 0, 1) := dk_3 (dk_at dksX7_eRead_11 3 rfl rfl)
theorem dX7_eRead_262 : decode cX7_eRead 262 = .ok (.istore_n 2, 1) := dk_61 (dk_at dksX7_eRead_11 4 rfl rfl)
theorem dX7_eRead_263 : decode cX7_eRead 263 = .ok (.goto (-249), 3) := dk_167 255 7 (dk_at dksX7_eRead_11 5 rfl rfl)
abbrev cX7_puts : ByteArray := prog_19_method_16_code
def yX7_puts : MethodName := ⟨RX7, "puts", "(I)V"⟩
def dkwX7_puts_1 : List UInt8 := [4, 96, 181, 0, 113, 177]
abbrev dktX7_puts_1 : List UInt8 := dkwX7_puts_1 ++ []
def dkwX7_puts_0 : List UInt8 := [42, 180, 0, 22, 17, 0, 200, 42, 180, 0, 86, 104, 42, 180, 0, 113, 96, 27, 79, 42, 89, 180, 0, 113]
abbrev dktX7_puts_0 : List UInt8 := dkwX7_puts_0 ++ dktX7_puts_1
theorem dksX7_puts_0 : cX7_puts.data.toList.drop 0 = dktX7_puts_0 := by decide +kernel
theorem dksX7_puts_1 : cX7_puts.data.toList.drop 24 = dktX7_puts_1 := dk_seg dksX7_puts_0 24 rfl rfl
theorem dX7_puts_0 : decode cX7_puts 0 = .ok (.aload_n 0, 1) := dk_42 (dk_at dksX7_puts_0 0 rfl rfl)
theorem dX7_puts_1 : decode cX7_puts 1 = .ok (.getfield 22, 3) := dk_180 0 22 (dk_at dksX7_puts_0 1 rfl rfl)
theorem dX7_puts_4 : decode cX7_puts 4 = .ok (.sipush 200, 3) := dk_17 0 200 (dk_at dksX7_puts_0 4 rfl rfl)
theorem dX7_puts_7 : decode cX7_puts 7 = .ok (.aload_n 0, 1) := dk_42 (dk_at dksX7_puts_0 7 rfl rfl)
theorem dX7_puts_8 : decode cX7_puts 8 = .ok (.getfield 86, 3) := dk_180 0 86 (dk_at dksX7_puts_0 8 rfl rfl)
theorem dX7_puts_11 : decode cX7_puts 11 = .ok (.imul, 1) := dk_104 (dk_at dksX7_puts_0 11 rfl rfl)
theorem dX7_puts_12 : decode cX7_puts 12 = .ok (.aload_n 0, 1) := dk_42 (dk_at dksX7_puts_0 12 rfl rfl)
theorem dX7_puts_13 : decode cX7_puts 13 = .ok (.getfield 113, 3) := dk_180 0 113 (dk_at dksX7_puts_0 13 rfl rfl)
theorem dX7_puts_16 : decode cX7_puts 16 = .ok (.iadd, 1) := dk_96 (dk_at dksX7_puts_0 16 rfl rfl)
theorem dX7_puts_17 : decode cX7_puts 17 = .ok (.iload_n 1, 1) := dk_27 (dk_at dksX7_puts_0 17 rfl rfl)
theorem dX7_puts_18 : decode cX7_puts 18 = .ok (.iastore, 1) := dk_79 (dk_at dksX7_puts_0 18 rfl rfl)
theorem dX7_puts_19 : decode cX7_puts 19 = .ok (.aload_n 0, 1) := dk_42 (dk_at dksX7_puts_0 19 rfl rfl)
theorem dX7_puts_20 : decode cX7_puts 20 = .ok (.dup, 1) := dk_89 (dk_at dksX7_puts_0 20 rfl rfl)
theorem dX7_puts_21 : decode cX7_puts 21 = .ok (.getfield 113, 3) := dk_180 0 113 (dk_at dksX7_puts_0 21 rfl rfl)
theorem dX7_puts_24 : decode cX7_puts 24 = .ok (.iconst 1, 1) := dk_4 (dk_at dksX7_puts_1 0 rfl rfl)
theorem dX7_puts_25 : decode cX7_puts 25 = .ok (.iadd, 1) := dk_96 (dk_at dksX7_puts_1 1 rfl rfl)
theorem dX7_puts_26 : decode cX7_puts 26 = .ok (.putfield 113, 3) := dk_181 0 113 (dk_at dksX7_puts_1 2 rfl rfl)
theorem dX7_puts_29 : decode cX7_puts 29 = .ok (.return_, 1) := dk_177 (dk_at dksX7_puts_1 5 rfl rfl)
abbrev cX7_unwinds : ByteArray := prog_19_method_17_code
def yX7_unwinds : MethodName := ⟨RX7, "unwinds", "(I)V"⟩
def dkwX7_unwinds_3 : List UInt8 := [181, 0, 122, 42, 28, 182, 0, 125, 167, 255, 180, 177]
abbrev dktX7_unwinds_3 : List UInt8 := dkwX7_unwinds_3 ++ []
def dkwX7_unwinds_2 : List UInt8 := [89, 180, 0, 122, 28, 16, 13, 159, 0, 9, 28, 16, 19, 160, 0, 7, 4, 167, 0, 4, 3, 100]
abbrev dktX7_unwinds_2 : List UInt8 := dkwX7_unwinds_2 ++ dktX7_unwinds_3
def dkwX7_unwinds_1 : List UInt8 := [161, 0, 57, 42, 89, 180, 0, 116, 4, 100, 181, 0, 116, 42, 180, 0, 49, 42, 180, 0, 116, 46, 61, 42]
abbrev dktX7_unwinds_1 : List UInt8 := dkwX7_unwinds_1 ++ dktX7_unwinds_2
def dkwX7_unwinds_0 : List UInt8 := [42, 180, 0, 116, 158, 0, 75, 42, 180, 0, 49, 42, 180, 0, 116, 4, 100, 46, 184, 0, 119, 27]
abbrev dktX7_unwinds_0 : List UInt8 := dkwX7_unwinds_0 ++ dktX7_unwinds_1
theorem dksX7_unwinds_0 : cX7_unwinds.data.toList.drop 0 = dktX7_unwinds_0 := by decide +kernel
theorem dksX7_unwinds_1 : cX7_unwinds.data.toList.drop 22 = dktX7_unwinds_1 := dk_seg dksX7_unwinds_0 22 rfl rfl
theorem dksX7_unwinds_2 : cX7_unwinds.data.toList.drop 46 = dktX7_unwinds_2 := dk_seg dksX7_unwinds_1 24 rfl rfl
theorem dksX7_unwinds_3 : cX7_unwinds.data.toList.drop 68 = dktX7_unwinds_3 := dk_seg dksX7_unwinds_2 22 rfl rfl
theorem dX7_unwinds_0 : decode cX7_unwinds 0 = .ok (.aload_n 0, 1) := dk_42 (dk_at dksX7_unwinds_0 0 rfl rfl)
theorem dX7_unwinds_1 : decode cX7_unwinds 1 = .ok (.getfield 116, 3) := dk_180 0 116 (dk_at dksX7_unwinds_0 1 rfl rfl)
theorem dX7_unwinds_4 : decode cX7_unwinds 4 = .ok (.ifCond .le 75, 3) := dk_158 0 75 (dk_at dksX7_unwinds_0 4 rfl rfl)
theorem dX7_unwinds_7 : decode cX7_unwinds 7 = .ok (.aload_n 0, 1) := dk_42 (dk_at dksX7_unwinds_0 7 rfl rfl)
theorem dX7_unwinds_8 : decode cX7_unwinds 8 = .ok (.getfield 49, 3) := dk_180 0 49 (dk_at dksX7_unwinds_0 8 rfl rfl)
theorem dX7_unwinds_11 : decode cX7_unwinds 11 = .ok (.aload_n 0, 1) := dk_42 (dk_at dksX7_unwinds_0 11 rfl rfl)
theorem dX7_unwinds_12 : decode cX7_unwinds 12 = .ok (.getfield 116, 3) := dk_180 0 116 (dk_at dksX7_unwinds_0 12 rfl rfl)
theorem dX7_unwinds_15 : decode cX7_unwinds 15 = .ok (.iconst 1, 1) := dk_4 (dk_at dksX7_unwinds_0 15 rfl rfl)
theorem dX7_unwinds_16 : decode cX7_unwinds 16 = .ok (.isub, 1) := dk_100 (dk_at dksX7_unwinds_0 16 rfl rfl)
theorem dX7_unwinds_17 : decode cX7_unwinds 17 = .ok (.iaload, 1) := dk_46 (dk_at dksX7_unwinds_0 17 rfl rfl)
theorem dX7_unwinds_18 : decode cX7_unwinds 18 = .ok (.invokestatic 119, 3) := dk_184 0 119 (dk_at dksX7_unwinds_0 18 rfl rfl)
theorem dX7_unwinds_21 : decode cX7_unwinds 21 = .ok (.iload_n 1, 1) := dk_27 (dk_at dksX7_unwinds_0 21 rfl rfl)
theorem dX7_unwinds_22 : decode cX7_unwinds 22 = .ok (.if_icmp .lt 57, 3) := dk_161 0 57 (dk_at dksX7_unwinds_1 0 rfl rfl)
theorem dX7_unwinds_25 : decode cX7_unwinds 25 = .ok (.aload_n 0, 1) := dk_42 (dk_at dksX7_unwinds_1 3 rfl rfl)
theorem dX7_unwinds_26 : decode cX7_unwinds 26 = .ok (.dup, 1) := dk_89 (dk_at dksX7_unwinds_1 4 rfl rfl)
theorem dX7_unwinds_27 : decode cX7_unwinds 27 = .ok (.getfield 116, 3) := dk_180 0 116 (dk_at dksX7_unwinds_1 5 rfl rfl)
theorem dX7_unwinds_30 : decode cX7_unwinds 30 = .ok (.iconst 1, 1) := dk_4 (dk_at dksX7_unwinds_1 8 rfl rfl)
theorem dX7_unwinds_31 : decode cX7_unwinds 31 = .ok (.isub, 1) := dk_100 (dk_at dksX7_unwinds_1 9 rfl rfl)
theorem dX7_unwinds_32 : decode cX7_unwinds 32 = .ok (.putfield 116, 3) := dk_181 0 116 (dk_at dksX7_unwinds_1 10 rfl rfl)
theorem dX7_unwinds_35 : decode cX7_unwinds 35 = .ok (.aload_n 0, 1) := dk_42 (dk_at dksX7_unwinds_1 13 rfl rfl)
theorem dX7_unwinds_36 : decode cX7_unwinds 36 = .ok (.getfield 49, 3) := dk_180 0 49 (dk_at dksX7_unwinds_1 14 rfl rfl)
theorem dX7_unwinds_39 : decode cX7_unwinds 39 = .ok (.aload_n 0, 1) := dk_42 (dk_at dksX7_unwinds_1 17 rfl rfl)
theorem dX7_unwinds_40 : decode cX7_unwinds 40 = .ok (.getfield 116, 3) := dk_180 0 116 (dk_at dksX7_unwinds_1 18 rfl rfl)
theorem dX7_unwinds_43 : decode cX7_unwinds 43 = .ok (.iaload, 1) := dk_46 (dk_at dksX7_unwinds_1 21 rfl rfl)
theorem dX7_unwinds_44 : decode cX7_unwinds 44 = .ok (.istore_n 2, 1) := dk_61 (dk_at dksX7_unwinds_1 22 rfl rfl)
theorem dX7_unwinds_45 : decode cX7_unwinds 45 = .ok (.aload_n 0, 1) := dk_42 (dk_at dksX7_unwinds_1 23 rfl rfl)
theorem dX7_unwinds_46 : decode cX7_unwinds 46 = .ok (.dup, 1) := dk_89 (dk_at dksX7_unwinds_2 0 rfl rfl)
theorem dX7_unwinds_47 : decode cX7_unwinds 47 = .ok (.getfield 122, 3) := dk_180 0 122 (dk_at dksX7_unwinds_2 1 rfl rfl)
theorem dX7_unwinds_50 : decode cX7_unwinds 50 = .ok (.iload_n 2, 1) := dk_28 (dk_at dksX7_unwinds_2 4 rfl rfl)
theorem dX7_unwinds_51 : decode cX7_unwinds 51 = .ok (.bipush 13, 2) := dk_16 13 (dk_at dksX7_unwinds_2 5 rfl rfl)
theorem dX7_unwinds_53 : decode cX7_unwinds 53 = .ok (.if_icmp .eq 9, 3) := dk_159 0 9 (dk_at dksX7_unwinds_2 7 rfl rfl)
theorem dX7_unwinds_56 : decode cX7_unwinds 56 = .ok (.iload_n 2, 1) := dk_28 (dk_at dksX7_unwinds_2 10 rfl rfl)
theorem dX7_unwinds_57 : decode cX7_unwinds 57 = .ok (.bipush 19, 2) := dk_16 19 (dk_at dksX7_unwinds_2 11 rfl rfl)
theorem dX7_unwinds_59 : decode cX7_unwinds 59 = .ok (.if_icmp .ne 7, 3) := dk_160 0 7 (dk_at dksX7_unwinds_2 13 rfl rfl)
theorem dX7_unwinds_62 : decode cX7_unwinds 62 = .ok (.iconst 1, 1) := dk_4 (dk_at dksX7_unwinds_2 16 rfl rfl)
theorem dX7_unwinds_63 : decode cX7_unwinds 63 = .ok (.goto 4, 3) := dk_167 0 4 (dk_at dksX7_unwinds_2 17 rfl rfl)
theorem dX7_unwinds_66 : decode cX7_unwinds 66 = .ok (.iconst 0, 1) := dk_3 (dk_at dksX7_unwinds_2 20 rfl rfl)
theorem dX7_unwinds_67 : decode cX7_unwinds 67 = .ok (.isub, 1) := dk_100 (dk_at dksX7_unwinds_2 21 rfl rfl)
theorem dX7_unwinds_68 : decode cX7_unwinds 68 = .ok (.putfield 122, 3) := dk_181 0 122 (dk_at dksX7_unwinds_3 0 rfl rfl)
theorem dX7_unwinds_71 : decode cX7_unwinds 71 = .ok (.aload_n 0, 1) := dk_42 (dk_at dksX7_unwinds_3 3 rfl rfl)
theorem dX7_unwinds_72 : decode cX7_unwinds 72 = .ok (.iload_n 2, 1) := dk_28 (dk_at dksX7_unwinds_3 4 rfl rfl)
theorem dX7_unwinds_73 : decode cX7_unwinds 73 = .ok (.invokevirtual 125, 3) := dk_182 0 125 (dk_at dksX7_unwinds_3 5 rfl rfl)
theorem dX7_unwinds_76 : decode cX7_unwinds 76 = .ok (.goto (-76), 3) := dk_167 255 180 (dk_at dksX7_unwinds_3 8 rfl rfl)
theorem dX7_unwinds_79 : decode cX7_unwinds 79 = .ok (.return_, 1) := dk_177 (dk_at dksX7_unwinds_3 11 rfl rfl)
abbrev cX7_rank : ByteArray := prog_19_method_15_code
def yX7_rank : MethodName := ⟨RX7, "rank", "(I)I"⟩
def dkwX7_rank_2 : List UInt8 := [26, 16, 17, 163, 0, 7, 8, 167, 0, 16, 26, 16, 18, 160, 0, 8, 16, 6, 167, 0, 5, 16, 7, 172]
abbrev dktX7_rank_2 : List UInt8 := dkwX7_rank_2 ++ []
def dkwX7_rank_1 : List UInt8 := [5, 167, 0, 46, 26, 16, 13, 160, 0, 7, 6, 167, 0, 36, 26, 16, 15, 163, 0, 7, 7, 167, 0, 26]
abbrev dktX7_rank_1 : List UInt8 := dkwX7_rank_1 ++ dktX7_rank_2
def dkwX7_rank_0 : List UInt8 := [26, 154, 0, 7, 3, 167, 0, 66, 26, 16, 11, 160, 0, 7, 4, 167, 0, 56, 26, 16, 12, 160, 0, 7]
abbrev dktX7_rank_0 : List UInt8 := dkwX7_rank_0 ++ dktX7_rank_1
theorem dksX7_rank_0 : cX7_rank.data.toList.drop 0 = dktX7_rank_0 := by decide +kernel
theorem dksX7_rank_1 : cX7_rank.data.toList.drop 24 = dktX7_rank_1 := dk_seg dksX7_rank_0 24 rfl rfl
theorem dksX7_rank_2 : cX7_rank.data.toList.drop 48 = dktX7_rank_2 := dk_seg dksX7_rank_1 24 rfl rfl
theorem dX7_rank_0 : decode cX7_rank 0 = .ok (.iload_n 0, 1) := dk_26 (dk_at dksX7_rank_0 0 rfl rfl)
theorem dX7_rank_1 : decode cX7_rank 1 = .ok (.ifCond .ne 7, 3) := dk_154 0 7 (dk_at dksX7_rank_0 1 rfl rfl)
theorem dX7_rank_4 : decode cX7_rank 4 = .ok (.iconst 0, 1) := dk_3 (dk_at dksX7_rank_0 4 rfl rfl)
theorem dX7_rank_5 : decode cX7_rank 5 = .ok (.goto 66, 3) := dk_167 0 66 (dk_at dksX7_rank_0 5 rfl rfl)
theorem dX7_rank_8 : decode cX7_rank 8 = .ok (.iload_n 0, 1) := dk_26 (dk_at dksX7_rank_0 8 rfl rfl)
theorem dX7_rank_9 : decode cX7_rank 9 = .ok (.bipush 11, 2) := dk_16 11 (dk_at dksX7_rank_0 9 rfl rfl)
theorem dX7_rank_11 : decode cX7_rank 11 = .ok (.if_icmp .ne 7, 3) := dk_160 0 7 (dk_at dksX7_rank_0 11 rfl rfl)
theorem dX7_rank_14 : decode cX7_rank 14 = .ok (.iconst 1, 1) := dk_4 (dk_at dksX7_rank_0 14 rfl rfl)
theorem dX7_rank_15 : decode cX7_rank 15 = .ok (.goto 56, 3) := dk_167 0 56 (dk_at dksX7_rank_0 15 rfl rfl)
theorem dX7_rank_18 : decode cX7_rank 18 = .ok (.iload_n 0, 1) := dk_26 (dk_at dksX7_rank_0 18 rfl rfl)
theorem dX7_rank_19 : decode cX7_rank 19 = .ok (.bipush 12, 2) := dk_16 12 (dk_at dksX7_rank_0 19 rfl rfl)
theorem dX7_rank_21 : decode cX7_rank 21 = .ok (.if_icmp .ne 7, 3) := dk_160 0 7 (dk_at dksX7_rank_0 21 rfl rfl)
theorem dX7_rank_24 : decode cX7_rank 24 = .ok (.iconst 2, 1) := dk_5 (dk_at dksX7_rank_1 0 rfl rfl)
theorem dX7_rank_25 : decode cX7_rank 25 = .ok (.goto 46, 3) := dk_167 0 46 (dk_at dksX7_rank_1 1 rfl rfl)
theorem dX7_rank_28 : decode cX7_rank 28 = .ok (.iload_n 0, 1) := dk_26 (dk_at dksX7_rank_1 4 rfl rfl)
theorem dX7_rank_29 : decode cX7_rank 29 = .ok (.bipush 13, 2) := dk_16 13 (dk_at dksX7_rank_1 5 rfl rfl)
theorem dX7_rank_31 : decode cX7_rank 31 = .ok (.if_icmp .ne 7, 3) := dk_160 0 7 (dk_at dksX7_rank_1 7 rfl rfl)
theorem dX7_rank_34 : decode cX7_rank 34 = .ok (.iconst 3, 1) := dk_6 (dk_at dksX7_rank_1 10 rfl rfl)
theorem dX7_rank_35 : decode cX7_rank 35 = .ok (.goto 36, 3) := dk_167 0 36 (dk_at dksX7_rank_1 11 rfl rfl)
theorem dX7_rank_38 : decode cX7_rank 38 = .ok (.iload_n 0, 1) := dk_26 (dk_at dksX7_rank_1 14 rfl rfl)
theorem dX7_rank_39 : decode cX7_rank 39 = .ok (.bipush 15, 2) := dk_16 15 (dk_at dksX7_rank_1 15 rfl rfl)
theorem dX7_rank_41 : decode cX7_rank 41 = .ok (.if_icmp .gt 7, 3) := dk_163 0 7 (dk_at dksX7_rank_1 17 rfl rfl)
theorem dX7_rank_44 : decode cX7_rank 44 = .ok (.iconst 4, 1) := dk_7 (dk_at dksX7_rank_1 20 rfl rfl)
theorem dX7_rank_45 : decode cX7_rank 45 = .ok (.goto 26, 3) := dk_167 0 26 (dk_at dksX7_rank_1 21 rfl rfl)
theorem dX7_rank_48 : decode cX7_rank 48 = .ok (.iload_n 0, 1) := dk_26 (dk_at dksX7_rank_2 0 rfl rfl)
theorem dX7_rank_49 : decode cX7_rank 49 = .ok (.bipush 17, 2) := dk_16 17 (dk_at dksX7_rank_2 1 rfl rfl)
theorem dX7_rank_51 : decode cX7_rank 51 = .ok (.if_icmp .gt 7, 3) := dk_163 0 7 (dk_at dksX7_rank_2 3 rfl rfl)
theorem dX7_rank_54 : decode cX7_rank 54 = .ok (.iconst 5, 1) := dk_8 (dk_at dksX7_rank_2 6 rfl rfl)
theorem dX7_rank_55 : decode cX7_rank 55 = .ok (.goto 16, 3) := dk_167 0 16 (dk_at dksX7_rank_2 7 rfl rfl)
theorem dX7_rank_58 : decode cX7_rank 58 = .ok (.iload_n 0, 1) := dk_26 (dk_at dksX7_rank_2 10 rfl rfl)
theorem dX7_rank_59 : decode cX7_rank 59 = .ok (.bipush 18, 2) := dk_16 18 (dk_at dksX7_rank_2 11 rfl rfl)
theorem dX7_rank_61 : decode cX7_rank 61 = .ok (.if_icmp .ne 8, 3) := dk_160 0 8 (dk_at dksX7_rank_2 13 rfl rfl)
theorem dX7_rank_64 : decode cX7_rank 64 = .ok (.bipush 6, 2) := dk_16 6 (dk_at dksX7_rank_2 16 rfl rfl)
theorem dX7_rank_66 : decode cX7_rank 66 = .ok (.goto 5, 3) := dk_167 0 5 (dk_at dksX7_rank_2 18 rfl rfl)
theorem dX7_rank_69 : decode cX7_rank 69 = .ok (.bipush 7, 2) := dk_16 7 (dk_at dksX7_rank_2 21 rfl rfl)
theorem dX7_rank_71 : decode cX7_rank 71 = .ok (.ireturn, 1) := dk_172 (dk_at dksX7_rank_2 23 rfl rfl)
abbrev cX7_opensOne : ByteArray := prog_19_method_19_code
def yX7_opensOne : MethodName := ⟨RX7, "opensOne", "(I)Z"⟩
def dkwX7_opensOne_1 : List UInt8 := [182, 0, 129, 4, 172]
abbrev dktX7_opensOne_1 : List UInt8 := dkwX7_opensOne_1 ++ []
def dkwX7_opensOne_0 : List UInt8 := [42, 180, 0, 122, 8, 160, 0, 5, 3, 172, 42, 89, 180, 0, 122, 4, 96, 181, 0, 122, 42, 27]
abbrev dktX7_opensOne_0 : List UInt8 := dkwX7_opensOne_0 ++ dktX7_opensOne_1
theorem dksX7_opensOne_0 : cX7_opensOne.data.toList.drop 0 = dktX7_opensOne_0 := by decide +kernel
theorem dksX7_opensOne_1 : cX7_opensOne.data.toList.drop 22 = dktX7_opensOne_1 := dk_seg dksX7_opensOne_0 22 rfl rfl
theorem dX7_opensOne_0 : decode cX7_opensOne 0 = .ok (.aload_n 0, 1) := dk_42 (dk_at dksX7_opensOne_0 0 rfl rfl)
theorem dX7_opensOne_1 : decode cX7_opensOne 1 = .ok (.getfield 122, 3) := dk_180 0 122 (dk_at dksX7_opensOne_0 1 rfl rfl)
theorem dX7_opensOne_4 : decode cX7_opensOne 4 = .ok (.iconst 5, 1) := dk_8 (dk_at dksX7_opensOne_0 4 rfl rfl)
theorem dX7_opensOne_5 : decode cX7_opensOne 5 = .ok (.if_icmp .ne 5, 3) := dk_160 0 5 (dk_at dksX7_opensOne_0 5 rfl rfl)
theorem dX7_opensOne_8 : decode cX7_opensOne 8 = .ok (.iconst 0, 1) := dk_3 (dk_at dksX7_opensOne_0 8 rfl rfl)
theorem dX7_opensOne_9 : decode cX7_opensOne 9 = .ok (.ireturn, 1) := dk_172 (dk_at dksX7_opensOne_0 9 rfl rfl)
theorem dX7_opensOne_10 : decode cX7_opensOne 10 = .ok (.aload_n 0, 1) := dk_42 (dk_at dksX7_opensOne_0 10 rfl rfl)
theorem dX7_opensOne_11 : decode cX7_opensOne 11 = .ok (.dup, 1) := dk_89 (dk_at dksX7_opensOne_0 11 rfl rfl)
theorem dX7_opensOne_12 : decode cX7_opensOne 12 = .ok (.getfield 122, 3) := dk_180 0 122 (dk_at dksX7_opensOne_0 12 rfl rfl)
theorem dX7_opensOne_15 : decode cX7_opensOne 15 = .ok (.iconst 1, 1) := dk_4 (dk_at dksX7_opensOne_0 15 rfl rfl)
theorem dX7_opensOne_16 : decode cX7_opensOne 16 = .ok (.iadd, 1) := dk_96 (dk_at dksX7_opensOne_0 16 rfl rfl)
theorem dX7_opensOne_17 : decode cX7_opensOne 17 = .ok (.putfield 122, 3) := dk_181 0 122 (dk_at dksX7_opensOne_0 17 rfl rfl)
theorem dX7_opensOne_20 : decode cX7_opensOne 20 = .ok (.aload_n 0, 1) := dk_42 (dk_at dksX7_opensOne_0 20 rfl rfl)
theorem dX7_opensOne_21 : decode cX7_opensOne 21 = .ok (.iload_n 1, 1) := dk_27 (dk_at dksX7_opensOne_0 21 rfl rfl)
theorem dX7_opensOne_22 : decode cX7_opensOne 22 = .ok (.invokevirtual 129, 3) := dk_182 0 129 (dk_at dksX7_opensOne_1 0 rfl rfl)
theorem dX7_opensOne_25 : decode cX7_opensOne 25 = .ok (.iconst 1, 1) := dk_4 (dk_at dksX7_opensOne_1 3 rfl rfl)
theorem dX7_opensOne_26 : decode cX7_opensOne 26 = .ok (.ireturn, 1) := dk_172 (dk_at dksX7_opensOne_1 4 rfl rfl)
abbrev cX7_holds : ByteArray := prog_19_method_18_code
def yX7_holds : MethodName := ⟨RX7, "holds", "(I)V"⟩
def dkwX7_holds_0 : List UInt8 := [42, 180, 0, 49, 42, 180, 0, 116, 27, 79, 42, 89, 180, 0, 116, 4, 96, 181, 0, 116, 177]
abbrev dktX7_holds_0 : List UInt8 := dkwX7_holds_0 ++ []
theorem dksX7_holds_0 : cX7_holds.data.toList.drop 0 = dktX7_holds_0 := by decide +kernel
theorem dX7_holds_0 : decode cX7_holds 0 = .ok (.aload_n 0, 1) := dk_42 (dk_at dksX7_holds_0 0 rfl rfl)
theorem dX7_holds_1 : decode cX7_holds 1 = .ok (.getfield 49, 3) := dk_180 0 49 (dk_at dksX7_holds_0 1 rfl rfl)
theorem dX7_holds_4 : decode cX7_holds 4 = .ok (.aload_n 0, 1) := dk_42 (dk_at dksX7_holds_0 4 rfl rfl)
theorem dX7_holds_5 : decode cX7_holds 5 = .ok (.getfield 116, 3) := dk_180 0 116 (dk_at dksX7_holds_0 5 rfl rfl)
theorem dX7_holds_8 : decode cX7_holds 8 = .ok (.iload_n 1, 1) := dk_27 (dk_at dksX7_holds_0 8 rfl rfl)
theorem dX7_holds_9 : decode cX7_holds 9 = .ok (.iastore, 1) := dk_79 (dk_at dksX7_holds_0 9 rfl rfl)
theorem dX7_holds_10 : decode cX7_holds 10 = .ok (.aload_n 0, 1) := dk_42 (dk_at dksX7_holds_0 10 rfl rfl)
theorem dX7_holds_11 : decode cX7_holds 11 = .ok (.dup, 1) := dk_89 (dk_at dksX7_holds_0 11 rfl rfl)
theorem dX7_holds_12 : decode cX7_holds 12 = .ok (.getfield 116, 3) := dk_180 0 116 (dk_at dksX7_holds_0 12 rfl rfl)
theorem dX7_holds_15 : decode cX7_holds 15 = .ok (.iconst 1, 1) := dk_4 (dk_at dksX7_holds_0 15 rfl rfl)
theorem dX7_holds_16 : decode cX7_holds 16 = .ok (.iadd, 1) := dk_96 (dk_at dksX7_holds_0 16 rfl rfl)
theorem dX7_holds_17 : decode cX7_holds 17 = .ok (.putfield 116, 3) := dk_181 0 116 (dk_at dksX7_holds_0 17 rfl rfl)
theorem dX7_holds_20 : decode cX7_holds 20 = .ok (.return_, 1) := dk_177 (dk_at dksX7_holds_0 20 rfl rfl)
abbrev cX7_signOf : ByteArray := prog_19_method_21_code
def yX7_signOf : MethodName := ⟨RX7, "signOf", "()I"⟩
def dkwX7_signOf_4 : List UInt8 := [167, 0, 4, 2, 172]
abbrev dktX7_signOf_4 : List UInt8 := dkwX7_signOf_4 ++ []
def dkwX7_signOf_3 : List UInt8 := [180, 0, 103, 16, 45, 160, 0, 8, 16, 17, 167, 0, 18, 42, 180, 0, 103, 16, 42, 160, 0, 8, 16, 18]
abbrev dktX7_signOf_3 : List UInt8 := dkwX7_signOf_3 ++ dktX7_signOf_4
def dkwX7_signOf_2 : List UInt8 := [160, 0, 8, 16, 15, 167, 0, 46, 42, 180, 0, 103, 16, 43, 160, 0, 8, 16, 16, 167, 0, 32, 42]
abbrev dktX7_signOf_2 : List UInt8 := dkwX7_signOf_2 ++ dktX7_signOf_3
def dkwX7_signOf_1 : List UInt8 := [167, 0, 74, 42, 180, 0, 103, 16, 60, 160, 0, 8, 16, 14, 167, 0, 60, 42, 180, 0, 103, 16, 61]
abbrev dktX7_signOf_1 : List UInt8 := dkwX7_signOf_1 ++ dktX7_signOf_2
def dkwX7_signOf_0 : List UInt8 := [42, 180, 0, 103, 7, 160, 0, 8, 16, 11, 167, 0, 87, 42, 180, 0, 103, 8, 160, 0, 8, 16, 12]
abbrev dktX7_signOf_0 : List UInt8 := dkwX7_signOf_0 ++ dktX7_signOf_1
theorem dksX7_signOf_0 : cX7_signOf.data.toList.drop 0 = dktX7_signOf_0 := by decide +kernel
theorem dksX7_signOf_1 : cX7_signOf.data.toList.drop 23 = dktX7_signOf_1 := dk_seg dksX7_signOf_0 23 rfl rfl
theorem dksX7_signOf_2 : cX7_signOf.data.toList.drop 46 = dktX7_signOf_2 := dk_seg dksX7_signOf_1 23 rfl rfl
theorem dksX7_signOf_3 : cX7_signOf.data.toList.drop 69 = dktX7_signOf_3 := dk_seg dksX7_signOf_2 23 rfl rfl
theorem dksX7_signOf_4 : cX7_signOf.data.toList.drop 93 = dktX7_signOf_4 := dk_seg dksX7_signOf_3 24 rfl rfl
theorem dX7_signOf_0 : decode cX7_signOf 0 = .ok (.aload_n 0, 1) := dk_42 (dk_at dksX7_signOf_0 0 rfl rfl)
theorem dX7_signOf_1 : decode cX7_signOf 1 = .ok (.getfield 103, 3) := dk_180 0 103 (dk_at dksX7_signOf_0 1 rfl rfl)
theorem dX7_signOf_4 : decode cX7_signOf 4 = .ok (.iconst 4, 1) := dk_7 (dk_at dksX7_signOf_0 4 rfl rfl)
theorem dX7_signOf_5 : decode cX7_signOf 5 = .ok (.if_icmp .ne 8, 3) := dk_160 0 8 (dk_at dksX7_signOf_0 5 rfl rfl)
theorem dX7_signOf_8 : decode cX7_signOf 8 = .ok (.bipush 11, 2) := dk_16 11 (dk_at dksX7_signOf_0 8 rfl rfl)
theorem dX7_signOf_10 : decode cX7_signOf 10 = .ok (.goto 87, 3) := dk_167 0 87 (dk_at dksX7_signOf_0 10 rfl rfl)
theorem dX7_signOf_13 : decode cX7_signOf 13 = .ok (.aload_n 0, 1) := dk_42 (dk_at dksX7_signOf_0 13 rfl rfl)
theorem dX7_signOf_14 : decode cX7_signOf 14 = .ok (.getfield 103, 3) := dk_180 0 103 (dk_at dksX7_signOf_0 14 rfl rfl)
theorem dX7_signOf_17 : decode cX7_signOf 17 = .ok (.iconst 5, 1) := dk_8 (dk_at dksX7_signOf_0 17 rfl rfl)
theorem dX7_signOf_18 : decode cX7_signOf 18 = .ok (.if_icmp .ne 8, 3) := dk_160 0 8 (dk_at dksX7_signOf_0 18 rfl rfl)
theorem dX7_signOf_21 : decode cX7_signOf 21 = .ok (.bipush 12, 2) := dk_16 12 (dk_at dksX7_signOf_0 21 rfl rfl)
theorem dX7_signOf_23 : decode cX7_signOf 23 = .ok (.goto 74, 3) := dk_167 0 74 (dk_at dksX7_signOf_1 0 rfl rfl)
theorem dX7_signOf_26 : decode cX7_signOf 26 = .ok (.aload_n 0, 1) := dk_42 (dk_at dksX7_signOf_1 3 rfl rfl)
theorem dX7_signOf_27 : decode cX7_signOf 27 = .ok (.getfield 103, 3) := dk_180 0 103 (dk_at dksX7_signOf_1 4 rfl rfl)
theorem dX7_signOf_30 : decode cX7_signOf 30 = .ok (.bipush 60, 2) := dk_16 60 (dk_at dksX7_signOf_1 7 rfl rfl)
theorem dX7_signOf_32 : decode cX7_signOf 32 = .ok (.if_icmp .ne 8, 3) := dk_160 0 8 (dk_at dksX7_signOf_1 9 rfl rfl)
theorem dX7_signOf_35 : decode cX7_signOf 35 = .ok (.bipush 14, 2) := dk_16 14 (dk_at dksX7_signOf_1 12 rfl rfl)
theorem dX7_signOf_37 : decode cX7_signOf 37 = .ok (.goto 60, 3) := dk_167 0 60 (dk_at dksX7_signOf_1 14 rfl rfl)
theorem dX7_signOf_40 : decode cX7_signOf 40 = .ok (.aload_n 0, 1) := dk_42 (dk_at dksX7_signOf_1 17 rfl rfl)
theorem dX7_signOf_41 : decode cX7_signOf 41 = .ok (.getfield 103, 3) := dk_180 0 103 (dk_at dksX7_signOf_1 18 rfl rfl)
theorem dX7_signOf_44 : decode cX7_signOf 44 = .ok (.bipush 61, 2) := dk_16 61 (dk_at dksX7_signOf_1 21 rfl rfl)
theorem dX7_signOf_46 : decode cX7_signOf 46 = .ok (.if_icmp .ne 8, 3) := dk_160 0 8 (dk_at dksX7_signOf_2 0 rfl rfl)
theorem dX7_signOf_49 : decode cX7_signOf 49 = .ok (.bipush 15, 2) := dk_16 15 (dk_at dksX7_signOf_2 3 rfl rfl)
theorem dX7_signOf_51 : decode cX7_signOf 51 = .ok (.goto 46, 3) := dk_167 0 46 (dk_at dksX7_signOf_2 5 rfl rfl)
theorem dX7_signOf_54 : decode cX7_signOf 54 = .ok (.aload_n 0, 1) := dk_42 (dk_at dksX7_signOf_2 8 rfl rfl)
theorem dX7_signOf_55 : decode cX7_signOf 55 = .ok (.getfield 103, 3) := dk_180 0 103 (dk_at dksX7_signOf_2 9 rfl rfl)
theorem dX7_signOf_58 : decode cX7_signOf 58 = .ok (.bipush 43, 2) := dk_16 43 (dk_at dksX7_signOf_2 12 rfl rfl)
theorem dX7_signOf_60 : decode cX7_signOf 60 = .ok (.if_icmp .ne 8, 3) := dk_160 0 8 (dk_at dksX7_signOf_2 14 rfl rfl)
theorem dX7_signOf_63 : decode cX7_signOf 63 = .ok (.bipush 16, 2) := dk_16 16 (dk_at dksX7_signOf_2 17 rfl rfl)
theorem dX7_signOf_65 : decode cX7_signOf 65 = .ok (.goto 32, 3) := dk_167 0 32 (dk_at dksX7_signOf_2 19 rfl rfl)
theorem dX7_signOf_68 : decode cX7_signOf 68 = .ok (.aload_n 0, 1) := dk_42 (dk_at dksX7_signOf_2 22 rfl rfl)
theorem dX7_signOf_69 : decode cX7_signOf 69 = .ok (.getfield 103, 3) := dk_180 0 103 (dk_at dksX7_signOf_3 0 rfl rfl)
theorem dX7_signOf_72 : decode cX7_signOf 72 = .ok (.bipush 45, 2) := dk_16 45 (dk_at dksX7_signOf_3 3 rfl rfl)
theorem dX7_signOf_74 : decode cX7_signOf 74 = .ok (.if_icmp .ne 8, 3) := dk_160 0 8 (dk_at dksX7_signOf_3 5 rfl rfl)
theorem dX7_signOf_77 : decode cX7_signOf 77 = .ok (.bipush 17, 2) := dk_16 17 (dk_at dksX7_signOf_3 8 rfl rfl)
theorem dX7_signOf_79 : decode cX7_signOf 79 = .ok (.goto 18, 3) := dk_167 0 18 (dk_at dksX7_signOf_3 10 rfl rfl)
theorem dX7_signOf_82 : decode cX7_signOf 82 = .ok (.aload_n 0, 1) := dk_42 (dk_at dksX7_signOf_3 13 rfl rfl)
theorem dX7_signOf_83 : decode cX7_signOf 83 = .ok (.getfield 103, 3) := dk_180 0 103 (dk_at dksX7_signOf_3 14 rfl rfl)
theorem dX7_signOf_86 : decode cX7_signOf 86 = .ok (.bipush 42, 2) := dk_16 42 (dk_at dksX7_signOf_3 17 rfl rfl)
theorem dX7_signOf_88 : decode cX7_signOf 88 = .ok (.if_icmp .ne 8, 3) := dk_160 0 8 (dk_at dksX7_signOf_3 19 rfl rfl)
theorem dX7_signOf_91 : decode cX7_signOf 91 = .ok (.bipush 18, 2) := dk_16 18 (dk_at dksX7_signOf_3 22 rfl rfl)
theorem dX7_signOf_93 : decode cX7_signOf 93 = .ok (.goto 4, 3) := dk_167 0 4 (dk_at dksX7_signOf_4 0 rfl rfl)
theorem dX7_signOf_96 : decode cX7_signOf 96 = .ok (.iconst (-1), 1) := dk_2 (dk_at dksX7_signOf_4 3 rfl rfl)
theorem dX7_signOf_97 : decode cX7_signOf 97 = .ok (.ireturn, 1) := dk_172 (dk_at dksX7_signOf_4 4 rfl rfl)
abbrev cX7_between : ByteArray := prog_19_method_20_code
def yX7_between : MethodName := ⟨RX7, "between", "(I)Z"⟩
def dkwX7_between_2 : List UInt8 := [184, 0, 119, 7, 160, 0, 5, 3, 172, 42, 27, 182, 0, 129, 4, 172]
abbrev dktX7_between_2 : List UInt8 := dkwX7_between_2 ++ []
def dkwX7_between_1 : List UInt8 := [7, 160, 0, 30, 42, 180, 0, 116, 158, 0, 23, 42, 180, 0, 49, 42, 180, 0, 116, 4, 100, 46]
abbrev dktX7_between_1 : List UInt8 := dkwX7_between_1 ++ dktX7_between_2
def dkwX7_between_0 : List UInt8 := [42, 27, 184, 0, 119, 7, 160, 0, 7, 8, 167, 0, 7, 27, 184, 0, 119, 182, 0, 132, 27, 184, 0, 119]
abbrev dktX7_between_0 : List UInt8 := dkwX7_between_0 ++ dktX7_between_1
theorem dksX7_between_0 : cX7_between.data.toList.drop 0 = dktX7_between_0 := by decide +kernel
theorem dksX7_between_1 : cX7_between.data.toList.drop 24 = dktX7_between_1 := dk_seg dksX7_between_0 24 rfl rfl
theorem dksX7_between_2 : cX7_between.data.toList.drop 46 = dktX7_between_2 := dk_seg dksX7_between_1 22 rfl rfl
theorem dX7_between_0 : decode cX7_between 0 = .ok (.aload_n 0, 1) := dk_42 (dk_at dksX7_between_0 0 rfl rfl)
theorem dX7_between_1 : decode cX7_between 1 = .ok (.iload_n 1, 1) := dk_27 (dk_at dksX7_between_0 1 rfl rfl)
theorem dX7_between_2 : decode cX7_between 2 = .ok (.invokestatic 119, 3) := dk_184 0 119 (dk_at dksX7_between_0 2 rfl rfl)
theorem dX7_between_5 : decode cX7_between 5 = .ok (.iconst 4, 1) := dk_7 (dk_at dksX7_between_0 5 rfl rfl)
theorem dX7_between_6 : decode cX7_between 6 = .ok (.if_icmp .ne 7, 3) := dk_160 0 7 (dk_at dksX7_between_0 6 rfl rfl)
theorem dX7_between_9 : decode cX7_between 9 = .ok (.iconst 5, 1) := dk_8 (dk_at dksX7_between_0 9 rfl rfl)
theorem dX7_between_10 : decode cX7_between 10 = .ok (.goto 7, 3) := dk_167 0 7 (dk_at dksX7_between_0 10 rfl rfl)
theorem dX7_between_13 : decode cX7_between 13 = .ok (.iload_n 1, 1) := dk_27 (dk_at dksX7_between_0 13 rfl rfl)
theorem dX7_between_14 : decode cX7_between 14 = .ok (.invokestatic 119, 3) := dk_184 0 119 (dk_at dksX7_between_0 14 rfl rfl)
theorem dX7_between_17 : decode cX7_between 17 = .ok (.invokevirtual 132, 3) := dk_182 0 132 (dk_at dksX7_between_0 17 rfl rfl)
theorem dX7_between_20 : decode cX7_between 20 = .ok (.iload_n 1, 1) := dk_27 (dk_at dksX7_between_0 20 rfl rfl)
theorem dX7_between_21 : decode cX7_between 21 = .ok (.invokestatic 119, 3) := dk_184 0 119 (dk_at dksX7_between_0 21 rfl rfl)
theorem dX7_between_24 : decode cX7_between 24 = .ok (.iconst 4, 1) := dk_7 (dk_at dksX7_between_1 0 rfl rfl)
theorem dX7_between_25 : decode cX7_between 25 = .ok (.if_icmp .ne 30, 3) := dk_160 0 30 (dk_at dksX7_between_1 1 rfl rfl)
theorem dX7_between_28 : decode cX7_between 28 = .ok (.aload_n 0, 1) := dk_42 (dk_at dksX7_between_1 4 rfl rfl)
theorem dX7_between_29 : decode cX7_between 29 = .ok (.getfield 116, 3) := dk_180 0 116 (dk_at dksX7_between_1 5 rfl rfl)
theorem dX7_between_32 : decode cX7_between 32 = .ok (.ifCond .le 23, 3) := dk_158 0 23 (dk_at dksX7_between_1 8 rfl rfl)
theorem dX7_between_35 : decode cX7_between 35 = .ok (.aload_n 0, 1) := dk_42 (dk_at dksX7_between_1 11 rfl rfl)
theorem dX7_between_36 : decode cX7_between 36 = .ok (.getfield 49, 3) := dk_180 0 49 (dk_at dksX7_between_1 12 rfl rfl)
theorem dX7_between_39 : decode cX7_between 39 = .ok (.aload_n 0, 1) := dk_42 (dk_at dksX7_between_1 15 rfl rfl)
theorem dX7_between_40 : decode cX7_between 40 = .ok (.getfield 116, 3) := dk_180 0 116 (dk_at dksX7_between_1 16 rfl rfl)
theorem dX7_between_43 : decode cX7_between 43 = .ok (.iconst 1, 1) := dk_4 (dk_at dksX7_between_1 19 rfl rfl)
theorem dX7_between_44 : decode cX7_between 44 = .ok (.isub, 1) := dk_100 (dk_at dksX7_between_1 20 rfl rfl)
theorem dX7_between_45 : decode cX7_between 45 = .ok (.iaload, 1) := dk_46 (dk_at dksX7_between_1 21 rfl rfl)
theorem dX7_between_46 : decode cX7_between 46 = .ok (.invokestatic 119, 3) := dk_184 0 119 (dk_at dksX7_between_2 0 rfl rfl)
theorem dX7_between_49 : decode cX7_between 49 = .ok (.iconst 4, 1) := dk_7 (dk_at dksX7_between_2 3 rfl rfl)
theorem dX7_between_50 : decode cX7_between 50 = .ok (.if_icmp .ne 5, 3) := dk_160 0 5 (dk_at dksX7_between_2 4 rfl rfl)
theorem dX7_between_53 : decode cX7_between 53 = .ok (.iconst 0, 1) := dk_3 (dk_at dksX7_between_2 7 rfl rfl)
theorem dX7_between_54 : decode cX7_between 54 = .ok (.ireturn, 1) := dk_172 (dk_at dksX7_between_2 8 rfl rfl)
theorem dX7_between_55 : decode cX7_between 55 = .ok (.aload_n 0, 1) := dk_42 (dk_at dksX7_between_2 9 rfl rfl)
theorem dX7_between_56 : decode cX7_between 56 = .ok (.iload_n 1, 1) := dk_27 (dk_at dksX7_between_2 10 rfl rfl)
theorem dX7_between_57 : decode cX7_between 57 = .ok (.invokevirtual 129, 3) := dk_182 0 129 (dk_at dksX7_between_2 11 rfl rfl)
theorem dX7_between_60 : decode cX7_between 60 = .ok (.iconst 1, 1) := dk_4 (dk_at dksX7_between_2 14 rfl rfl)
theorem dX7_between_61 : decode cX7_between 61 = .ok (.ireturn, 1) := dk_172 (dk_at dksX7_between_2 15 rfl rfl)
abbrev cX7_count : ByteArray := prog_19_method_9_code
def yX7_count : MethodName := ⟨RX7, "count", "(I)I"⟩
def dkwX7_count_3 : List UInt8 := [180, 0, 89, 172, 42, 180, 0, 61, 172, 16, 254, 172]
abbrev dktX7_count_3 : List UInt8 := dkwX7_count_3 ++ []
def dkwX7_count_2 : List UInt8 := [42, 180, 0, 69, 172, 42, 180, 0, 76, 184, 0, 79, 172, 42, 180, 0, 83, 172, 42, 180, 0, 86, 172, 42]
abbrev dktX7_count_2 : List UInt8 := dkwX7_count_2 ++ dktX7_count_3
def dkwX7_count_1 : List UInt8 := [170, 0, 0, 0, 0, 0, 72, 0, 0, 0, 0, 0, 0, 0, 5, 0, 0, 0, 39, 0, 0, 0, 44, 0, 0, 0, 52, 0, 0, 0, 57, 0, 0, 0, 62, 0, 0, 0, 67]
abbrev dktX7_count_1 : List UInt8 := dkwX7_count_1 ++ dktX7_count_2
def dkwX7_count_0 : List UInt8 := [27]
abbrev dktX7_count_0 : List UInt8 := dkwX7_count_0 ++ dktX7_count_1
theorem dksX7_count_0 : cX7_count.data.toList.drop 0 = dktX7_count_0 := by decide +kernel
theorem dksX7_count_1 : cX7_count.data.toList.drop 1 = dktX7_count_1 := dk_seg dksX7_count_0 1 rfl rfl
theorem dksX7_count_2 : cX7_count.data.toList.drop 40 = dktX7_count_2 := dk_seg dksX7_count_1 39 rfl rfl
theorem dksX7_count_3 : cX7_count.data.toList.drop 64 = dktX7_count_3 := dk_seg dksX7_count_2 24 rfl rfl
theorem dX7_count_0 : decode cX7_count 0 = .ok (.iload_n 1, 1) := dk_27 (dk_at dksX7_count_0 0 rfl rfl)
theorem dX7_count_1 : decode cX7_count 1 = .ok (.tableswitch 72 0 5 #[39, 44, 52, 57, 62, 67], 39) := by decide +kernel
theorem dX7_count_40 : decode cX7_count 40 = .ok (.aload_n 0, 1) := dk_42 (dk_at dksX7_count_2 0 rfl rfl)
theorem dX7_count_41 : decode cX7_count 41 = .ok (.getfield 69, 3) := dk_180 0 69 (dk_at dksX7_count_2 1 rfl rfl)
theorem dX7_count_44 : decode cX7_count 44 = .ok (.ireturn, 1) := dk_172 (dk_at dksX7_count_2 4 rfl rfl)
theorem dX7_count_45 : decode cX7_count 45 = .ok (.aload_n 0, 1) := dk_42 (dk_at dksX7_count_2 5 rfl rfl)
theorem dX7_count_46 : decode cX7_count 46 = .ok (.getfield 76, 3) := dk_180 0 76 (dk_at dksX7_count_2 6 rfl rfl)
theorem dX7_count_49 : decode cX7_count 49 = .ok (.invokestatic 79, 3) := dk_184 0 79 (dk_at dksX7_count_2 9 rfl rfl)
theorem dX7_count_52 : decode cX7_count 52 = .ok (.ireturn, 1) := dk_172 (dk_at dksX7_count_2 12 rfl rfl)
theorem dX7_count_53 : decode cX7_count 53 = .ok (.aload_n 0, 1) := dk_42 (dk_at dksX7_count_2 13 rfl rfl)
theorem dX7_count_54 : decode cX7_count 54 = .ok (.getfield 83, 3) := dk_180 0 83 (dk_at dksX7_count_2 14 rfl rfl)
theorem dX7_count_57 : decode cX7_count 57 = .ok (.ireturn, 1) := dk_172 (dk_at dksX7_count_2 17 rfl rfl)
theorem dX7_count_58 : decode cX7_count 58 = .ok (.aload_n 0, 1) := dk_42 (dk_at dksX7_count_2 18 rfl rfl)
theorem dX7_count_59 : decode cX7_count 59 = .ok (.getfield 86, 3) := dk_180 0 86 (dk_at dksX7_count_2 19 rfl rfl)
theorem dX7_count_62 : decode cX7_count 62 = .ok (.ireturn, 1) := dk_172 (dk_at dksX7_count_2 22 rfl rfl)
theorem dX7_count_63 : decode cX7_count 63 = .ok (.aload_n 0, 1) := dk_42 (dk_at dksX7_count_2 23 rfl rfl)
theorem dX7_count_64 : decode cX7_count 64 = .ok (.getfield 89, 3) := dk_180 0 89 (dk_at dksX7_count_3 0 rfl rfl)
theorem dX7_count_67 : decode cX7_count 67 = .ok (.ireturn, 1) := dk_172 (dk_at dksX7_count_3 3 rfl rfl)
theorem dX7_count_68 : decode cX7_count 68 = .ok (.aload_n 0, 1) := dk_42 (dk_at dksX7_count_3 4 rfl rfl)
theorem dX7_count_69 : decode cX7_count 69 = .ok (.getfield 61, 3) := dk_180 0 61 (dk_at dksX7_count_3 5 rfl rfl)
theorem dX7_count_72 : decode cX7_count 72 = .ok (.ireturn, 1) := dk_172 (dk_at dksX7_count_3 8 rfl rfl)
theorem dX7_count_73 : decode cX7_count 73 = .ok (.bipush (-2), 2) := dk_16 254 (dk_at dksX7_count_3 9 rfl rfl)
theorem dX7_count_75 : decode cX7_count 75 = .ok (.ireturn, 1) := dk_172 (dk_at dksX7_count_3 11 rfl rfl)
abbrev cX7_bitsOf : ByteArray := prog_19_method_5_code
def yX7_bitsOf : MethodName := ⟨RX7, "bitsOf", "(I)I"⟩
def dkwX7_bitsOf_1 : List UInt8 := [27, 172]
abbrev dktX7_bitsOf_1 : List UInt8 := dkwX7_bitsOf_1 ++ []
def dkwX7_bitsOf_0 : List UInt8 := [3, 60, 3, 61, 28, 16, 16, 162, 0, 17, 27, 26, 28, 122, 4, 126, 96, 60, 132, 2, 1, 167, 255, 239]
abbrev dktX7_bitsOf_0 : List UInt8 := dkwX7_bitsOf_0 ++ dktX7_bitsOf_1
theorem dksX7_bitsOf_0 : cX7_bitsOf.data.toList.drop 0 = dktX7_bitsOf_0 := by decide +kernel
theorem dksX7_bitsOf_1 : cX7_bitsOf.data.toList.drop 24 = dktX7_bitsOf_1 := dk_seg dksX7_bitsOf_0 24 rfl rfl
theorem dX7_bitsOf_0 : decode cX7_bitsOf 0 = .ok (.iconst 0, 1) := dk_3 (dk_at dksX7_bitsOf_0 0 rfl rfl)
theorem dX7_bitsOf_1 : decode cX7_bitsOf 1 = .ok (.istore_n 1, 1) := dk_60 (dk_at dksX7_bitsOf_0 1 rfl rfl)
theorem dX7_bitsOf_2 : decode cX7_bitsOf 2 = .ok (.iconst 0, 1) := dk_3 (dk_at dksX7_bitsOf_0 2 rfl rfl)
theorem dX7_bitsOf_3 : decode cX7_bitsOf 3 = .ok (.istore_n 2, 1) := dk_61 (dk_at dksX7_bitsOf_0 3 rfl rfl)
theorem dX7_bitsOf_4 : decode cX7_bitsOf 4 = .ok (.iload_n 2, 1) := dk_28 (dk_at dksX7_bitsOf_0 4 rfl rfl)
theorem dX7_bitsOf_5 : decode cX7_bitsOf 5 = .ok (.bipush 16, 2) := dk_16 16 (dk_at dksX7_bitsOf_0 5 rfl rfl)
theorem dX7_bitsOf_7 : decode cX7_bitsOf 7 = .ok (.if_icmp .ge 17, 3) := dk_162 0 17 (dk_at dksX7_bitsOf_0 7 rfl rfl)
theorem dX7_bitsOf_10 : decode cX7_bitsOf 10 = .ok (.iload_n 1, 1) := dk_27 (dk_at dksX7_bitsOf_0 10 rfl rfl)
theorem dX7_bitsOf_11 : decode cX7_bitsOf 11 = .ok (.iload_n 0, 1) := dk_26 (dk_at dksX7_bitsOf_0 11 rfl rfl)
theorem dX7_bitsOf_12 : decode cX7_bitsOf 12 = .ok (.iload_n 2, 1) := dk_28 (dk_at dksX7_bitsOf_0 12 rfl rfl)
theorem dX7_bitsOf_13 : decode cX7_bitsOf 13 = .ok (.ishr, 1) := dk_122 (dk_at dksX7_bitsOf_0 13 rfl rfl)
theorem dX7_bitsOf_14 : decode cX7_bitsOf 14 = .ok (.iconst 1, 1) := dk_4 (dk_at dksX7_bitsOf_0 14 rfl rfl)
theorem dX7_bitsOf_15 : decode cX7_bitsOf 15 = .ok (.iand, 1) := dk_126 (dk_at dksX7_bitsOf_0 15 rfl rfl)
theorem dX7_bitsOf_16 : decode cX7_bitsOf 16 = .ok (.iadd, 1) := dk_96 (dk_at dksX7_bitsOf_0 16 rfl rfl)
theorem dX7_bitsOf_17 : decode cX7_bitsOf 17 = .ok (.istore_n 1, 1) := dk_60 (dk_at dksX7_bitsOf_0 17 rfl rfl)
theorem dX7_bitsOf_18 : decode cX7_bitsOf 18 = .ok (.iinc 2 1, 3) := dk_132 2 1 (dk_at dksX7_bitsOf_0 18 rfl rfl)
theorem dX7_bitsOf_21 : decode cX7_bitsOf 21 = .ok (.goto (-17), 3) := dk_167 255 239 (dk_at dksX7_bitsOf_0 21 rfl rfl)
theorem dX7_bitsOf_24 : decode cX7_bitsOf 24 = .ok (.iload_n 1, 1) := dk_27 (dk_at dksX7_bitsOf_1 0 rfl rfl)
theorem dX7_bitsOf_25 : decode cX7_bitsOf 25 = .ok (.ireturn, 1) := dk_172 (dk_at dksX7_bitsOf_1 1 rfl rfl)
abbrev cX7_shore : ByteArray := prog_19_method_10_code
def yX7_shore : MethodName := ⟨RX7, "shore", "(II)I"⟩
def dkwX7_shore_2 : List UInt8 := [62, 27, 154, 0, 11, 42, 28, 181, 0, 83, 167, 0, 8, 42, 28, 181, 0, 76, 29, 172]
abbrev dktX7_shore_2 : List UInt8 := dkwX7_shore_2 ++ []
def dkwX7_shore_1 : List UInt8 := [184, 0, 72, 154, 0, 6, 16, 254, 172, 27, 154, 0, 10, 42, 180, 0, 83, 167, 0, 7, 42, 180, 0, 76]
abbrev dktX7_shore_1 : List UInt8 := dkwX7_shore_1 ++ dktX7_shore_2
def dkwX7_shore_0 : List UInt8 := [27, 3, 4, 184, 0, 72, 153, 0, 23, 28, 3, 27, 154, 0, 9, 17, 3, 231, 167, 0, 5, 18, 92]
abbrev dktX7_shore_0 : List UInt8 := dkwX7_shore_0 ++ dktX7_shore_1
theorem dksX7_shore_0 : cX7_shore.data.toList.drop 0 = dktX7_shore_0 := by decide +kernel
theorem dksX7_shore_1 : cX7_shore.data.toList.drop 23 = dktX7_shore_1 := dk_seg dksX7_shore_0 23 rfl rfl
theorem dksX7_shore_2 : cX7_shore.data.toList.drop 47 = dktX7_shore_2 := dk_seg dksX7_shore_1 24 rfl rfl
theorem dX7_shore_0 : decode cX7_shore 0 = .ok (.iload_n 1, 1) := dk_27 (dk_at dksX7_shore_0 0 rfl rfl)
theorem dX7_shore_1 : decode cX7_shore 1 = .ok (.iconst 0, 1) := dk_3 (dk_at dksX7_shore_0 1 rfl rfl)
theorem dX7_shore_2 : decode cX7_shore 2 = .ok (.iconst 1, 1) := dk_4 (dk_at dksX7_shore_0 2 rfl rfl)
theorem dX7_shore_3 : decode cX7_shore 3 = .ok (.invokestatic 72, 3) := dk_184 0 72 (dk_at dksX7_shore_0 3 rfl rfl)
theorem dX7_shore_6 : decode cX7_shore 6 = .ok (.ifCond .eq 23, 3) := dk_153 0 23 (dk_at dksX7_shore_0 6 rfl rfl)
theorem dX7_shore_9 : decode cX7_shore 9 = .ok (.iload_n 2, 1) := dk_28 (dk_at dksX7_shore_0 9 rfl rfl)
theorem dX7_shore_10 : decode cX7_shore 10 = .ok (.iconst 0, 1) := dk_3 (dk_at dksX7_shore_0 10 rfl rfl)
theorem dX7_shore_11 : decode cX7_shore 11 = .ok (.iload_n 1, 1) := dk_27 (dk_at dksX7_shore_0 11 rfl rfl)
theorem dX7_shore_12 : decode cX7_shore 12 = .ok (.ifCond .ne 9, 3) := dk_154 0 9 (dk_at dksX7_shore_0 12 rfl rfl)
theorem dX7_shore_15 : decode cX7_shore 15 = .ok (.sipush 999, 3) := dk_17 3 231 (dk_at dksX7_shore_0 15 rfl rfl)
theorem dX7_shore_18 : decode cX7_shore 18 = .ok (.goto 5, 3) := dk_167 0 5 (dk_at dksX7_shore_0 18 rfl rfl)
theorem dX7_shore_21 : decode cX7_shore 21 = .ok (.ldc 92, 2) := dk_18 92 (dk_at dksX7_shore_0 21 rfl rfl)
theorem dX7_shore_23 : decode cX7_shore 23 = .ok (.invokestatic 72, 3) := dk_184 0 72 (dk_at dksX7_shore_1 0 rfl rfl)
theorem dX7_shore_26 : decode cX7_shore 26 = .ok (.ifCond .ne 6, 3) := dk_154 0 6 (dk_at dksX7_shore_1 3 rfl rfl)
theorem dX7_shore_29 : decode cX7_shore 29 = .ok (.bipush (-2), 2) := dk_16 254 (dk_at dksX7_shore_1 6 rfl rfl)
theorem dX7_shore_31 : decode cX7_shore 31 = .ok (.ireturn, 1) := dk_172 (dk_at dksX7_shore_1 8 rfl rfl)
theorem dX7_shore_32 : decode cX7_shore 32 = .ok (.iload_n 1, 1) := dk_27 (dk_at dksX7_shore_1 9 rfl rfl)
theorem dX7_shore_33 : decode cX7_shore 33 = .ok (.ifCond .ne 10, 3) := dk_154 0 10 (dk_at dksX7_shore_1 10 rfl rfl)
theorem dX7_shore_36 : decode cX7_shore 36 = .ok (.aload_n 0, 1) := dk_42 (dk_at dksX7_shore_1 13 rfl rfl)
theorem dX7_shore_37 : decode cX7_shore 37 = .ok (.getfield 83, 3) := dk_180 0 83 (dk_at dksX7_shore_1 14 rfl rfl)
theorem dX7_shore_40 : decode cX7_shore 40 = .ok (.goto 7, 3) := dk_167 0 7 (dk_at dksX7_shore_1 17 rfl rfl)
theorem dX7_shore_43 : decode cX7_shore 43 = .ok (.aload_n 0, 1) := dk_42 (dk_at dksX7_shore_1 20 rfl rfl)
theorem dX7_shore_44 : decode cX7_shore 44 = .ok (.getfield 76, 3) := dk_180 0 76 (dk_at dksX7_shore_1 21 rfl rfl)
theorem dX7_shore_47 : decode cX7_shore 47 = .ok (.istore_n 3, 1) := dk_62 (dk_at dksX7_shore_2 0 rfl rfl)
theorem dX7_shore_48 : decode cX7_shore 48 = .ok (.iload_n 1, 1) := dk_27 (dk_at dksX7_shore_2 1 rfl rfl)
theorem dX7_shore_49 : decode cX7_shore 49 = .ok (.ifCond .ne 11, 3) := dk_154 0 11 (dk_at dksX7_shore_2 2 rfl rfl)
theorem dX7_shore_52 : decode cX7_shore 52 = .ok (.aload_n 0, 1) := dk_42 (dk_at dksX7_shore_2 5 rfl rfl)
theorem dX7_shore_53 : decode cX7_shore 53 = .ok (.iload_n 2, 1) := dk_28 (dk_at dksX7_shore_2 6 rfl rfl)
theorem dX7_shore_54 : decode cX7_shore 54 = .ok (.putfield 83, 3) := dk_181 0 83 (dk_at dksX7_shore_2 7 rfl rfl)
theorem dX7_shore_57 : decode cX7_shore 57 = .ok (.goto 8, 3) := dk_167 0 8 (dk_at dksX7_shore_2 10 rfl rfl)
theorem dX7_shore_60 : decode cX7_shore 60 = .ok (.aload_n 0, 1) := dk_42 (dk_at dksX7_shore_2 13 rfl rfl)
theorem dX7_shore_61 : decode cX7_shore 61 = .ok (.iload_n 2, 1) := dk_28 (dk_at dksX7_shore_2 14 rfl rfl)
theorem dX7_shore_62 : decode cX7_shore 62 = .ok (.putfield 76, 3) := dk_181 0 76 (dk_at dksX7_shore_2 15 rfl rfl)
theorem dX7_shore_65 : decode cX7_shore 65 = .ok (.iload_n 3, 1) := dk_29 (dk_at dksX7_shore_2 18 rfl rfl)
theorem dX7_shore_66 : decode cX7_shore 66 = .ok (.ireturn, 1) := dk_172 (dk_at dksX7_shore_2 19 rfl rfl)
abbrev cX7_feed : ByteArray := prog_19_method_12_code
def yX7_feed : MethodName := ⟨RX7, "feed", "(IIIIII)I"⟩
def dkwX7_feed_6 : List UInt8 := [42, 180, 0, 61, 172]
abbrev dktX7_feed_6 : List UInt8 := dkwX7_feed_6 ++ []
def dkwX7_feed_5 : List UInt8 := [21, 5, 167, 0, 5, 21, 6, 79, 42, 89, 180, 0, 61, 4, 96, 181, 0, 61, 132, 7, 1, 167, 255, 185]
abbrev dktX7_feed_5 : List UInt8 := dkwX7_feed_5 ++ dktX7_feed_6
def dkwX7_feed_4 : List UInt8 := [160, 0, 7, 29, 167, 0, 27, 21, 7, 5, 160, 0, 8, 21, 4, 167, 0, 16, 21, 7, 6, 160, 0, 8]
abbrev dktX7_feed_4 : List UInt8 := dkwX7_feed_4 ++ dktX7_feed_5
def dkwX7_feed_3 : List UInt8 := [162, 0, 71, 42, 180, 0, 19, 42, 180, 0, 61, 21, 7, 154, 0, 7, 28, 167, 0, 37, 21, 7, 4]
abbrev dktX7_feed_3 : List UInt8 := dkwX7_feed_3 ++ dktX7_feed_4
def dkwX7_feed_2 : List UInt8 := [16, 254, 172, 42, 180, 0, 61, 27, 96, 17, 0, 160, 164, 0, 6, 16, 252, 172, 3, 54, 7, 21, 7, 27]
abbrev dktX7_feed_2 : List UInt8 := dkwX7_feed_2 ++ dktX7_feed_3
def dkwX7_feed_1 : List UInt8 := [21, 4, 184, 0, 93, 153, 0, 19, 21, 5, 184, 0, 93, 153, 0, 11, 21, 6, 184, 0, 93, 154, 0, 6]
abbrev dktX7_feed_1 : List UInt8 := dkwX7_feed_1 ++ dktX7_feed_2
def dkwX7_feed_0 : List UInt8 := [27, 4, 8, 184, 0, 72, 153, 0, 41, 28, 184, 0, 93, 153, 0, 34, 29, 184, 0, 93, 153, 0, 27]
abbrev dktX7_feed_0 : List UInt8 := dkwX7_feed_0 ++ dktX7_feed_1
theorem dksX7_feed_0 : cX7_feed.data.toList.drop 0 = dktX7_feed_0 := by decide +kernel
theorem dksX7_feed_1 : cX7_feed.data.toList.drop 23 = dktX7_feed_1 := dk_seg dksX7_feed_0 23 rfl rfl
theorem dksX7_feed_2 : cX7_feed.data.toList.drop 47 = dktX7_feed_2 := dk_seg dksX7_feed_1 24 rfl rfl
theorem dksX7_feed_3 : cX7_feed.data.toList.drop 71 = dktX7_feed_3 := dk_seg dksX7_feed_2 24 rfl rfl
theorem dksX7_feed_4 : cX7_feed.data.toList.drop 94 = dktX7_feed_4 := dk_seg dksX7_feed_3 23 rfl rfl
theorem dksX7_feed_5 : cX7_feed.data.toList.drop 118 = dktX7_feed_5 := dk_seg dksX7_feed_4 24 rfl rfl
theorem dksX7_feed_6 : cX7_feed.data.toList.drop 142 = dktX7_feed_6 := dk_seg dksX7_feed_5 24 rfl rfl
theorem dX7_feed_0 : decode cX7_feed 0 = .ok (.iload_n 1, 1) := dk_27 (dk_at dksX7_feed_0 0 rfl rfl)
theorem dX7_feed_1 : decode cX7_feed 1 = .ok (.iconst 1, 1) := dk_4 (dk_at dksX7_feed_0 1 rfl rfl)
theorem dX7_feed_2 : decode cX7_feed 2 = .ok (.iconst 5, 1) := dk_8 (dk_at dksX7_feed_0 2 rfl rfl)
theorem dX7_feed_3 : decode cX7_feed 3 = .ok (.invokestatic 72, 3) := dk_184 0 72 (dk_at dksX7_feed_0 3 rfl rfl)
theorem dX7_feed_6 : decode cX7_feed 6 = .ok (.ifCond .eq 41, 3) := dk_153 0 41 (dk_at dksX7_feed_0 6 rfl rfl)
theorem dX7_feed_9 : decode cX7_feed 9 = .ok (.iload_n 2, 1) := dk_28 (dk_at dksX7_feed_0 9 rfl rfl)
theorem dX7_feed_10 : decode cX7_feed 10 = .ok (.invokestatic 93, 3) := dk_184 0 93 (dk_at dksX7_feed_0 10 rfl rfl)
theorem dX7_feed_13 : decode cX7_feed 13 = .ok (.ifCond .eq 34, 3) := dk_153 0 34 (dk_at dksX7_feed_0 13 rfl rfl)
theorem dX7_feed_16 : decode cX7_feed 16 = .ok (.iload_n 3, 1) := dk_29 (dk_at dksX7_feed_0 16 rfl rfl)
theorem dX7_feed_17 : decode cX7_feed 17 = .ok (.invokestatic 93, 3) := dk_184 0 93 (dk_at dksX7_feed_0 17 rfl rfl)
theorem dX7_feed_20 : decode cX7_feed 20 = .ok (.ifCond .eq 27, 3) := dk_153 0 27 (dk_at dksX7_feed_0 20 rfl rfl)
theorem dX7_feed_23 : decode cX7_feed 23 = .ok (.iload 4, 2) := dk_21 4 (dk_at dksX7_feed_1 0 rfl rfl)
theorem dX7_feed_25 : decode cX7_feed 25 = .ok (.invokestatic 93, 3) := dk_184 0 93 (dk_at dksX7_feed_1 2 rfl rfl)
theorem dX7_feed_28 : decode cX7_feed 28 = .ok (.ifCond .eq 19, 3) := dk_153 0 19 (dk_at dksX7_feed_1 5 rfl rfl)
theorem dX7_feed_31 : decode cX7_feed 31 = .ok (.iload 5, 2) := dk_21 5 (dk_at dksX7_feed_1 8 rfl rfl)
theorem dX7_feed_33 : decode cX7_feed 33 = .ok (.invokestatic 93, 3) := dk_184 0 93 (dk_at dksX7_feed_1 10 rfl rfl)
theorem dX7_feed_36 : decode cX7_feed 36 = .ok (.ifCond .eq 11, 3) := dk_153 0 11 (dk_at dksX7_feed_1 13 rfl rfl)
theorem dX7_feed_39 : decode cX7_feed 39 = .ok (.iload 6, 2) := dk_21 6 (dk_at dksX7_feed_1 16 rfl rfl)
theorem dX7_feed_41 : decode cX7_feed 41 = .ok (.invokestatic 93, 3) := dk_184 0 93 (dk_at dksX7_feed_1 18 rfl rfl)
theorem dX7_feed_44 : decode cX7_feed 44 = .ok (.ifCond .ne 6, 3) := dk_154 0 6 (dk_at dksX7_feed_1 21 rfl rfl)
theorem dX7_feed_47 : decode cX7_feed 47 = .ok (.bipush (-2), 2) := dk_16 254 (dk_at dksX7_feed_2 0 rfl rfl)
theorem dX7_feed_49 : decode cX7_feed 49 = .ok (.ireturn, 1) := dk_172 (dk_at dksX7_feed_2 2 rfl rfl)
theorem dX7_feed_50 : decode cX7_feed 50 = .ok (.aload_n 0, 1) := dk_42 (dk_at dksX7_feed_2 3 rfl rfl)
theorem dX7_feed_51 : decode cX7_feed 51 = .ok (.getfield 61, 3) := dk_180 0 61 (dk_at dksX7_feed_2 4 rfl rfl)
theorem dX7_feed_54 : decode cX7_feed 54 = .ok (.iload_n 1, 1) := dk_27 (dk_at dksX7_feed_2 7 rfl rfl)
theorem dX7_feed_55 : decode cX7_feed 55 = .ok (.iadd, 1) := dk_96 (dk_at dksX7_feed_2 8 rfl rfl)
theorem dX7_feed_56 : decode cX7_feed 56 = .ok (.sipush 160, 3) := dk_17 0 160 (dk_at dksX7_feed_2 9 rfl rfl)
theorem dX7_feed_59 : decode cX7_feed 59 = .ok (.if_icmp .le 6, 3) := dk_164 0 6 (dk_at dksX7_feed_2 12 rfl rfl)
theorem dX7_feed_62 : decode cX7_feed 62 = .ok (.bipush (-4), 2) := dk_16 252 (dk_at dksX7_feed_2 15 rfl rfl)
theorem dX7_feed_64 : decode cX7_feed 64 = .ok (.ireturn, 1) := dk_172 (dk_at dksX7_feed_2 17 rfl rfl)
theorem dX7_feed_65 : decode cX7_feed 65 = .ok (.iconst 0, 1) := dk_3 (dk_at dksX7_feed_2 18 rfl rfl)
theorem dX7_feed_66 : decode cX7_feed 66 = .ok (.istore 7, 2) := dk_54 7 (dk_at dksX7_feed_2 19 rfl rfl)
theorem dX7_feed_68 : decode cX7_feed 68 = .ok (.iload 7, 2) := dk_21 7 (dk_at dksX7_feed_2 21 rfl rfl)
theorem dX7_feed_70 : decode cX7_feed 70 = .ok (.iload_n 1, 1) := dk_27 (dk_at dksX7_feed_2 23 rfl rfl)
theorem dX7_feed_71 : decode cX7_feed 71 = .ok (.if_icmp .ge 71, 3) := dk_162 0 71 (dk_at dksX7_feed_3 0 rfl rfl)
theorem dX7_feed_74 : decode cX7_feed 74 = .ok (.aload_n 0, 1) := dk_42 (dk_at dksX7_feed_3 3 rfl rfl)
theorem dX7_feed_75 : decode cX7_feed 75 = .ok (.getfield 19, 3) := dk_180 0 19 (dk_at dksX7_feed_3 4 rfl rfl)
theorem dX7_feed_78 : decode cX7_feed 78 = .ok (.aload_n 0, 1) := dk_42 (dk_at dksX7_feed_3 7 rfl rfl)
theorem dX7_feed_79 : decode cX7_feed 79 = .ok (.getfield 61, 3) := dk_180 0 61 (dk_at dksX7_feed_3 8 rfl rfl)
theorem dX7_feed_82 : decode cX7_feed 82 = .ok (.iload 7, 2) := dk_21 7 (dk_at dksX7_feed_3 11 rfl rfl)
theorem dX7_feed_84 : decode cX7_feed 84 = .ok (.ifCond .ne 7, 3) := dk_154 0 7 (dk_at dksX7_feed_3 13 rfl rfl)
theorem dX7_feed_87 : decode cX7_feed 87 = .ok (.iload_n 2, 1) := dk_28 (dk_at dksX7_feed_3 16 rfl rfl)
theorem dX7_feed_88 : decode cX7_feed 88 = .ok (.goto 37, 3) := dk_167 0 37 (dk_at dksX7_feed_3 17 rfl rfl)
theorem dX7_feed_91 : decode cX7_feed 91 = .ok (.iload 7, 2) := dk_21 7 (dk_at dksX7_feed_3 20 rfl rfl)
theorem dX7_feed_93 : decode cX7_feed 93 = .ok (.iconst 1, 1) := dk_4 (dk_at dksX7_feed_3 22 rfl rfl)
theorem dX7_feed_94 : decode cX7_feed 94 = .ok (.if_icmp .ne 7, 3) := dk_160 0 7 (dk_at dksX7_feed_4 0 rfl rfl)
theorem dX7_feed_97 : decode cX7_feed 97 = .ok (.iload_n 3, 1) := dk_29 (dk_at dksX7_feed_4 3 rfl rfl)
theorem dX7_feed_98 : decode cX7_feed 98 = .ok (.goto 27, 3) := dk_167 0 27 (dk_at dksX7_feed_4 4 rfl rfl)
theorem dX7_feed_101 : decode cX7_feed 101 = .ok (.iload 7, 2) := dk_21 7 (dk_at dksX7_feed_4 7 rfl rfl)
theorem dX7_feed_103 : decode cX7_feed 103 = .ok (.iconst 2, 1) := dk_5 (dk_at dksX7_feed_4 9 rfl rfl)
theorem dX7_feed_104 : decode cX7_feed 104 = .ok (.if_icmp .ne 8, 3) := dk_160 0 8 (dk_at dksX7_feed_4 10 rfl rfl)
theorem dX7_feed_107 : decode cX7_feed 107 = .ok (.iload 4, 2) := dk_21 4 (dk_at dksX7_feed_4 13 rfl rfl)
theorem dX7_feed_109 : decode cX7_feed 109 = .ok (.goto 16, 3) := dk_167 0 16 (dk_at dksX7_feed_4 15 rfl rfl)
theorem dX7_feed_112 : decode cX7_feed 112 = .ok (.iload 7, 2) := dk_21 7 (dk_at dksX7_feed_4 18 rfl rfl)
theorem dX7_feed_114 : decode cX7_feed 114 = .ok (.iconst 3, 1) := dk_6 (dk_at dksX7_feed_4 20 rfl rfl)
theorem dX7_feed_115 : decode cX7_feed 115 = .ok (.if_icmp .ne 8, 3) := dk_160 0 8 (dk_at dksX7_feed_4 21 rfl rfl)
theorem dX7_feed_118 : decode cX7_feed 118 = .ok (.iload 5, 2) := dk_21 5 (dk_at dksX7_feed_5 0 rfl rfl)
theorem dX7_feed_120 : decode cX7_feed 120 = .ok (.goto 5, 3) := dk_167 0 5 (dk_at dksX7_feed_5 2 rfl rfl)
theorem dX7_feed_123 : decode cX7_feed 123 = .ok (.iload 6, 2) := dk_21 6 (dk_at dksX7_feed_5 5 rfl rfl)
theorem dX7_feed_125 : decode cX7_feed 125 = .ok (.iastore, 1) := dk_79 (dk_at dksX7_feed_5 7 rfl rfl)
theorem dX7_feed_126 : decode cX7_feed 126 = .ok (.aload_n 0, 1) := dk_42 (dk_at dksX7_feed_5 8 rfl rfl)
theorem dX7_feed_127 : decode cX7_feed 127 = .ok (.dup, 1) := dk_89 (dk_at dksX7_feed_5 9 rfl rfl)
theorem dX7_feed_128 : decode cX7_feed 128 = .ok (.getfield 61, 3) := dk_180 0 61 (dk_at dksX7_feed_5 10 rfl rfl)
theorem dX7_feed_131 : decode cX7_feed 131 = .ok (.iconst 1, 1) := dk_4 (dk_at dksX7_feed_5 13 rfl rfl)
theorem dX7_feed_132 : decode cX7_feed 132 = .ok (.iadd, 1) := dk_96 (dk_at dksX7_feed_5 14 rfl rfl)
theorem dX7_feed_133 : decode cX7_feed 133 = .ok (.putfield 61, 3) := dk_181 0 61 (dk_at dksX7_feed_5 15 rfl rfl)
theorem dX7_feed_136 : decode cX7_feed 136 = .ok (.iinc 7 1, 3) := dk_132 7 1 (dk_at dksX7_feed_5 18 rfl rfl)
theorem dX7_feed_139 : decode cX7_feed 139 = .ok (.goto (-71), 3) := dk_167 255 185 (dk_at dksX7_feed_5 21 rfl rfl)
theorem dX7_feed_142 : decode cX7_feed 142 = .ok (.aload_n 0, 1) := dk_42 (dk_at dksX7_feed_6 0 rfl rfl)
theorem dX7_feed_143 : decode cX7_feed 143 = .ok (.getfield 61, 3) := dk_180 0 61 (dk_at dksX7_feed_6 1 rfl rfl)
theorem dX7_feed_146 : decode cX7_feed 146 = .ok (.ireturn, 1) := dk_172 (dk_at dksX7_feed_6 4 rfl rfl)
abbrev cX7_isByte : ByteArray := prog_19_method_11_code
def yX7_isByte : MethodName := ⟨RX7, "isByte", "(I)Z"⟩
def dkwX7_isByte_0 : List UInt8 := [26, 3, 17, 0, 255, 184, 0, 72, 172]
abbrev dktX7_isByte_0 : List UInt8 := dkwX7_isByte_0 ++ []
theorem dksX7_isByte_0 : cX7_isByte.data.toList.drop 0 = dktX7_isByte_0 := by decide +kernel
theorem dX7_isByte_0 : decode cX7_isByte 0 = .ok (.iload_n 0, 1) := dk_26 (dk_at dksX7_isByte_0 0 rfl rfl)
theorem dX7_isByte_1 : decode cX7_isByte 1 = .ok (.iconst 0, 1) := dk_3 (dk_at dksX7_isByte_0 1 rfl rfl)
theorem dX7_isByte_2 : decode cX7_isByte 2 = .ok (.sipush 255, 3) := dk_17 0 255 (dk_at dksX7_isByte_0 2 rfl rfl)
theorem dX7_isByte_5 : decode cX7_isByte 5 = .ok (.invokestatic 72, 3) := dk_184 0 72 (dk_at dksX7_isByte_0 5 rfl rfl)
theorem dX7_isByte_8 : decode cX7_isByte 8 = .ok (.ireturn, 1) := dk_172 (dk_at dksX7_isByte_0 8 rfl rfl)
abbrev cX7_force : ByteArray := prog_19_method_26_code
def yX7_force : MethodName := ⟨RX7, "force", "(I)I"⟩
def dkwX7_force_1 : List UInt8 := [181, 0, 89, 28, 172]
abbrev dktX7_force_1 : List UInt8 := dkwX7_force_1 ++ []
def dkwX7_force_0 : List UInt8 := [27, 3, 42, 180, 0, 86, 4, 100, 184, 0, 72, 154, 0, 6, 16, 254, 172, 42, 180, 0, 89, 61, 42, 27]
abbrev dktX7_force_0 : List UInt8 := dkwX7_force_0 ++ dktX7_force_1
theorem dksX7_force_0 : cX7_force.data.toList.drop 0 = dktX7_force_0 := by decide +kernel
theorem dksX7_force_1 : cX7_force.data.toList.drop 24 = dktX7_force_1 := dk_seg dksX7_force_0 24 rfl rfl
theorem dX7_force_0 : decode cX7_force 0 = .ok (.iload_n 1, 1) := dk_27 (dk_at dksX7_force_0 0 rfl rfl)
theorem dX7_force_1 : decode cX7_force 1 = .ok (.iconst 0, 1) := dk_3 (dk_at dksX7_force_0 1 rfl rfl)
theorem dX7_force_2 : decode cX7_force 2 = .ok (.aload_n 0, 1) := dk_42 (dk_at dksX7_force_0 2 rfl rfl)
theorem dX7_force_3 : decode cX7_force 3 = .ok (.getfield 86, 3) := dk_180 0 86 (dk_at dksX7_force_0 3 rfl rfl)
theorem dX7_force_6 : decode cX7_force 6 = .ok (.iconst 1, 1) := dk_4 (dk_at dksX7_force_0 6 rfl rfl)
theorem dX7_force_7 : decode cX7_force 7 = .ok (.isub, 1) := dk_100 (dk_at dksX7_force_0 7 rfl rfl)
theorem dX7_force_8 : decode cX7_force 8 = .ok (.invokestatic 72, 3) := dk_184 0 72 (dk_at dksX7_force_0 8 rfl rfl)
theorem dX7_force_11 : decode cX7_force 11 = .ok (.ifCond .ne 6, 3) := dk_154 0 6 (dk_at dksX7_force_0 11 rfl rfl)
theorem dX7_force_14 : decode cX7_force 14 = .ok (.bipush (-2), 2) := dk_16 254 (dk_at dksX7_force_0 14 rfl rfl)
theorem dX7_force_16 : decode cX7_force 16 = .ok (.ireturn, 1) := dk_172 (dk_at dksX7_force_0 16 rfl rfl)
theorem dX7_force_17 : decode cX7_force 17 = .ok (.aload_n 0, 1) := dk_42 (dk_at dksX7_force_0 17 rfl rfl)
theorem dX7_force_18 : decode cX7_force 18 = .ok (.getfield 89, 3) := dk_180 0 89 (dk_at dksX7_force_0 18 rfl rfl)
theorem dX7_force_21 : decode cX7_force 21 = .ok (.istore_n 2, 1) := dk_61 (dk_at dksX7_force_0 21 rfl rfl)
theorem dX7_force_22 : decode cX7_force 22 = .ok (.aload_n 0, 1) := dk_42 (dk_at dksX7_force_0 22 rfl rfl)
theorem dX7_force_23 : decode cX7_force 23 = .ok (.iload_n 1, 1) := dk_27 (dk_at dksX7_force_0 23 rfl rfl)
theorem dX7_force_24 : decode cX7_force 24 = .ok (.putfield 89, 3) := dk_181 0 89 (dk_at dksX7_force_1 0 rfl rfl)
theorem dX7_force_27 : decode cX7_force 27 = .ok (.iload_n 2, 1) := dk_28 (dk_at dksX7_force_1 3 rfl rfl)
theorem dX7_force_28 : decode cX7_force 28 = .ok (.ireturn, 1) := dk_172 (dk_at dksX7_force_1 4 rfl rfl)
abbrev cX7_asks : ByteArray := prog_19_method_28_code
def yX7_asks : MethodName := ⟨RX7, "asks", "(III)I"⟩
def dkwX7_asks_1 : List UInt8 := [42, 27, 28, 29, 182, 0, 168, 167, 0, 6, 17, 252, 24, 172]
abbrev dktX7_asks_1 : List UInt8 := dkwX7_asks_1 ++ []
def dkwX7_asks_0 : List UInt8 := [27, 3, 5, 184, 0, 72, 153, 0, 28, 42, 28, 182, 0, 162, 153, 0, 20, 29, 184, 0, 165, 153, 0, 13]
abbrev dktX7_asks_0 : List UInt8 := dkwX7_asks_0 ++ dktX7_asks_1
theorem dksX7_asks_0 : cX7_asks.data.toList.drop 0 = dktX7_asks_0 := by decide +kernel
theorem dksX7_asks_1 : cX7_asks.data.toList.drop 24 = dktX7_asks_1 := dk_seg dksX7_asks_0 24 rfl rfl
theorem dX7_asks_0 : decode cX7_asks 0 = .ok (.iload_n 1, 1) := dk_27 (dk_at dksX7_asks_0 0 rfl rfl)
theorem dX7_asks_1 : decode cX7_asks 1 = .ok (.iconst 0, 1) := dk_3 (dk_at dksX7_asks_0 1 rfl rfl)
theorem dX7_asks_2 : decode cX7_asks 2 = .ok (.iconst 2, 1) := dk_5 (dk_at dksX7_asks_0 2 rfl rfl)
theorem dX7_asks_3 : decode cX7_asks 3 = .ok (.invokestatic 72, 3) := dk_184 0 72 (dk_at dksX7_asks_0 3 rfl rfl)
theorem dX7_asks_6 : decode cX7_asks 6 = .ok (.ifCond .eq 28, 3) := dk_153 0 28 (dk_at dksX7_asks_0 6 rfl rfl)
theorem dX7_asks_9 : decode cX7_asks 9 = .ok (.aload_n 0, 1) := dk_42 (dk_at dksX7_asks_0 9 rfl rfl)
theorem dX7_asks_10 : decode cX7_asks 10 = .ok (.iload_n 2, 1) := dk_28 (dk_at dksX7_asks_0 10 rfl rfl)
theorem dX7_asks_11 : decode cX7_asks 11 = .ok (.invokevirtual 162, 3) := dk_182 0 162 (dk_at dksX7_asks_0 11 rfl rfl)
theorem dX7_asks_14 : decode cX7_asks 14 = .ok (.ifCond .eq 20, 3) := dk_153 0 20 (dk_at dksX7_asks_0 14 rfl rfl)
theorem dX7_asks_17 : decode cX7_asks 17 = .ok (.iload_n 3, 1) := dk_29 (dk_at dksX7_asks_0 17 rfl rfl)
theorem dX7_asks_18 : decode cX7_asks 18 = .ok (.invokestatic 165, 3) := dk_184 0 165 (dk_at dksX7_asks_0 18 rfl rfl)
theorem dX7_asks_21 : decode cX7_asks 21 = .ok (.ifCond .eq 13, 3) := dk_153 0 13 (dk_at dksX7_asks_0 21 rfl rfl)
theorem dX7_asks_24 : decode cX7_asks 24 = .ok (.aload_n 0, 1) := dk_42 (dk_at dksX7_asks_1 0 rfl rfl)
theorem dX7_asks_25 : decode cX7_asks 25 = .ok (.iload_n 1, 1) := dk_27 (dk_at dksX7_asks_1 1 rfl rfl)
theorem dX7_asks_26 : decode cX7_asks 26 = .ok (.iload_n 2, 1) := dk_28 (dk_at dksX7_asks_1 2 rfl rfl)
theorem dX7_asks_27 : decode cX7_asks 27 = .ok (.iload_n 3, 1) := dk_29 (dk_at dksX7_asks_1 3 rfl rfl)
theorem dX7_asks_28 : decode cX7_asks 28 = .ok (.invokevirtual 168, 3) := dk_182 0 168 (dk_at dksX7_asks_1 4 rfl rfl)
theorem dX7_asks_31 : decode cX7_asks 31 = .ok (.goto 6, 3) := dk_167 0 6 (dk_at dksX7_asks_1 7 rfl rfl)
theorem dX7_asks_34 : decode cX7_asks 34 = .ok (.sipush (-1000), 3) := dk_17 252 24 (dk_at dksX7_asks_1 10 rfl rfl)
theorem dX7_asks_37 : decode cX7_asks 37 = .ok (.ireturn, 1) := dk_172 (dk_at dksX7_asks_1 13 rfl rfl)
abbrev cX7_isOne : ByteArray := prog_19_method_7_code
def yX7_isOne : MethodName := ⟨RX7, "isOne", "(I)Z"⟩
def dkwX7_isOne_0 : List UInt8 := [27, 3, 42, 180, 0, 69, 4, 100, 184, 0, 72, 172]
abbrev dktX7_isOne_0 : List UInt8 := dkwX7_isOne_0 ++ []
theorem dksX7_isOne_0 : cX7_isOne.data.toList.drop 0 = dktX7_isOne_0 := by decide +kernel
theorem dX7_isOne_0 : decode cX7_isOne 0 = .ok (.iload_n 1, 1) := dk_27 (dk_at dksX7_isOne_0 0 rfl rfl)
theorem dX7_isOne_1 : decode cX7_isOne 1 = .ok (.iconst 0, 1) := dk_3 (dk_at dksX7_isOne_0 1 rfl rfl)
theorem dX7_isOne_2 : decode cX7_isOne 2 = .ok (.aload_n 0, 1) := dk_42 (dk_at dksX7_isOne_0 2 rfl rfl)
theorem dX7_isOne_3 : decode cX7_isOne 3 = .ok (.getfield 69, 3) := dk_180 0 69 (dk_at dksX7_isOne_0 3 rfl rfl)
theorem dX7_isOne_6 : decode cX7_isOne 6 = .ok (.iconst 1, 1) := dk_4 (dk_at dksX7_isOne_0 6 rfl rfl)
theorem dX7_isOne_7 : decode cX7_isOne 7 = .ok (.isub, 1) := dk_100 (dk_at dksX7_isOne_0 7 rfl rfl)
theorem dX7_isOne_8 : decode cX7_isOne 8 = .ok (.invokestatic 72, 3) := dk_184 0 72 (dk_at dksX7_isOne_0 8 rfl rfl)
theorem dX7_isOne_11 : decode cX7_isOne 11 = .ok (.ireturn, 1) := dk_172 (dk_at dksX7_isOne_0 11 rfl rfl)
abbrev cX7_isThing : ByteArray := prog_19_method_8_code
def yX7_isThing : MethodName := ⟨RX7, "isThing", "(I)Z"⟩
def dkwX7_isThing_0 : List UInt8 := [26, 3, 16, 15, 184, 0, 72, 172]
abbrev dktX7_isThing_0 : List UInt8 := dkwX7_isThing_0 ++ []
theorem dksX7_isThing_0 : cX7_isThing.data.toList.drop 0 = dktX7_isThing_0 := by decide +kernel
theorem dX7_isThing_0 : decode cX7_isThing 0 = .ok (.iload_n 0, 1) := dk_26 (dk_at dksX7_isThing_0 0 rfl rfl)
theorem dX7_isThing_1 : decode cX7_isThing 1 = .ok (.iconst 0, 1) := dk_3 (dk_at dksX7_isThing_0 1 rfl rfl)
theorem dX7_isThing_2 : decode cX7_isThing 2 = .ok (.bipush 15, 2) := dk_16 15 (dk_at dksX7_isThing_0 2 rfl rfl)
theorem dX7_isThing_4 : decode cX7_isThing 4 = .ok (.invokestatic 72, 3) := dk_184 0 72 (dk_at dksX7_isThing_0 4 rfl rfl)
theorem dX7_isThing_7 : decode cX7_isThing 7 = .ok (.ireturn, 1) := dk_172 (dk_at dksX7_isThing_0 7 rfl rfl)
abbrev cX7_asksOf : ByteArray := prog_19_method_27_code
def yX7_asksOf : MethodName := ⟨RX7, "asksOf", "(III)I"⟩
def dkwX7_asksOf_5 : List UInt8 := [16, 99, 184, 0, 159, 172]
abbrev dktX7_asksOf_5 : List UInt8 := dkwX7_asksOf_5 ++ []
def dkwX7_asksOf_4 : List UInt8 := [182, 0, 156, 27, 5, 160, 0, 7, 3, 167, 0, 5, 16, 157, 27, 5, 160, 0, 8, 16, 16, 167, 0, 5]
abbrev dktX7_asksOf_4 : List UInt8 := dkwX7_asksOf_4 ++ dktX7_asksOf_5
def dkwX7_asksOf_3 : List UInt8 := [180, 0, 16, 6, 28, 104, 5, 96, 46, 79, 42, 180, 0, 55, 8, 42, 180, 0, 13, 28, 46, 79, 42, 27]
abbrev dktX7_asksOf_3 : List UInt8 := dkwX7_asksOf_3 ++ dktX7_asksOf_4
def dkwX7_asksOf_2 : List UInt8 := [96, 46, 184, 0, 79, 79, 42, 180, 0, 55, 6, 42, 180, 0, 83, 79, 42, 180, 0, 55, 7, 42]
abbrev dktX7_asksOf_2 : List UInt8 := dkwX7_asksOf_2 ++ dktX7_asksOf_3
def dkwX7_asksOf_1 : List UInt8 := [180, 0, 16, 6, 28, 104, 46, 184, 0, 79, 79, 42, 180, 0, 55, 5, 42, 180, 0, 16, 6, 28, 104, 4]
abbrev dktX7_asksOf_1 : List UInt8 := dkwX7_asksOf_1 ++ dktX7_asksOf_2
def dkwX7_asksOf_0 : List UInt8 := [42, 180, 0, 55, 3, 27, 5, 160, 0, 7, 3, 167, 0, 4, 29, 79, 42, 180, 0, 55, 4, 42]
abbrev dktX7_asksOf_0 : List UInt8 := dkwX7_asksOf_0 ++ dktX7_asksOf_1
theorem dksX7_asksOf_0 : cX7_asksOf.data.toList.drop 0 = dktX7_asksOf_0 := by decide +kernel
theorem dksX7_asksOf_1 : cX7_asksOf.data.toList.drop 22 = dktX7_asksOf_1 := dk_seg dksX7_asksOf_0 22 rfl rfl
theorem dksX7_asksOf_2 : cX7_asksOf.data.toList.drop 46 = dktX7_asksOf_2 := dk_seg dksX7_asksOf_1 24 rfl rfl
theorem dksX7_asksOf_3 : cX7_asksOf.data.toList.drop 68 = dktX7_asksOf_3 := dk_seg dksX7_asksOf_2 22 rfl rfl
theorem dksX7_asksOf_4 : cX7_asksOf.data.toList.drop 92 = dktX7_asksOf_4 := dk_seg dksX7_asksOf_3 24 rfl rfl
theorem dksX7_asksOf_5 : cX7_asksOf.data.toList.drop 116 = dktX7_asksOf_5 := dk_seg dksX7_asksOf_4 24 rfl rfl
theorem dX7_asksOf_0 : decode cX7_asksOf 0 = .ok (.aload_n 0, 1) := dk_42 (dk_at dksX7_asksOf_0 0 rfl rfl)
theorem dX7_asksOf_1 : decode cX7_asksOf 1 = .ok (.getfield 55, 3) := dk_180 0 55 (dk_at dksX7_asksOf_0 1 rfl rfl)
theorem dX7_asksOf_4 : decode cX7_asksOf 4 = .ok (.iconst 0, 1) := dk_3 (dk_at dksX7_asksOf_0 4 rfl rfl)
theorem dX7_asksOf_5 : decode cX7_asksOf 5 = .ok (.iload_n 1, 1) := dk_27 (dk_at dksX7_asksOf_0 5 rfl rfl)
theorem dX7_asksOf_6 : decode cX7_asksOf 6 = .ok (.iconst 2, 1) := dk_5 (dk_at dksX7_asksOf_0 6 rfl rfl)
theorem dX7_asksOf_7 : decode cX7_asksOf 7 = .ok (.if_icmp .ne 7, 3) := dk_160 0 7 (dk_at dksX7_asksOf_0 7 rfl rfl)
theorem dX7_asksOf_10 : decode cX7_asksOf 10 = .ok (.iconst 0, 1) := dk_3 (dk_at dksX7_asksOf_0 10 rfl rfl)
theorem dX7_asksOf_11 : decode cX7_asksOf 11 = .ok (.goto 4, 3) := dk_167 0 4 (dk_at dksX7_asksOf_0 11 rfl rfl)
theorem dX7_asksOf_14 : decode cX7_asksOf 14 = .ok (.iload_n 3, 1) := dk_29 (dk_at dksX7_asksOf_0 14 rfl rfl)
theorem dX7_asksOf_15 : decode cX7_asksOf 15 = .ok (.iastore, 1) := dk_79 (dk_at dksX7_asksOf_0 15 rfl rfl)
theorem dX7_asksOf_16 : decode cX7_asksOf 16 = .ok (.aload_n 0, 1) := dk_42 (dk_at dksX7_asksOf_0 16 rfl rfl)
theorem dX7_asksOf_17 : decode cX7_asksOf 17 = .ok (.getfield 55, 3) := dk_180 0 55 (dk_at dksX7_asksOf_0 17 rfl rfl)
theorem dX7_asksOf_20 : decode cX7_asksOf 20 = .ok (.iconst 1, 1) := dk_4 (dk_at dksX7_asksOf_0 20 rfl rfl)
theorem dX7_asksOf_21 : decode cX7_asksOf 21 = .ok (.aload_n 0, 1) := dk_42 (dk_at dksX7_asksOf_0 21 rfl rfl)
theorem dX7_asksOf_22 : decode cX7_asksOf 22 = .ok (.getfield 16, 3) := dk_180 0 16 (dk_at dksX7_asksOf_1 0 rfl rfl)
theorem dX7_asksOf_25 : decode cX7_asksOf 25 = .ok (.iconst 3, 1) := dk_6 (dk_at dksX7_asksOf_1 3 rfl rfl)
theorem dX7_asksOf_26 : decode cX7_asksOf 26 = .ok (.iload_n 2, 1) := dk_28 (dk_at dksX7_asksOf_1 4 rfl rfl)
theorem dX7_asksOf_27 : decode cX7_asksOf 27 = .ok (.imul, 1) := dk_104 (dk_at dksX7_asksOf_1 5 rfl rfl)
theorem dX7_asksOf_28 : decode cX7_asksOf 28 = .ok (.iaload, 1) := dk_46 (dk_at dksX7_asksOf_1 6 rfl rfl)
theorem dX7_asksOf_29 : decode cX7_asksOf 29 = .ok (.invokestatic 79, 3) := dk_184 0 79 (dk_at dksX7_asksOf_1 7 rfl rfl)
theorem dX7_asksOf_32 : decode cX7_asksOf 32 = .ok (.iastore, 1) := dk_79 (dk_at dksX7_asksOf_1 10 rfl rfl)
theorem dX7_asksOf_33 : decode cX7_asksOf 33 = .ok (.aload_n 0, 1) := dk_42 (dk_at dksX7_asksOf_1 11 rfl rfl)
theorem dX7_asksOf_34 : decode cX7_asksOf 34 = .ok (.getfield 55, 3) := dk_180 0 55 (dk_at dksX7_asksOf_1 12 rfl rfl)
theorem dX7_asksOf_37 : decode cX7_asksOf 37 = .ok (.iconst 2, 1) := dk_5 (dk_at dksX7_asksOf_1 15 rfl rfl)
theorem dX7_asksOf_38 : decode cX7_asksOf 38 = .ok (.aload_n 0, 1) := dk_42 (dk_at dksX7_asksOf_1 16 rfl rfl)
theorem dX7_asksOf_39 : decode cX7_asksOf 39 = .ok (.getfield 16, 3) := dk_180 0 16 (dk_at dksX7_asksOf_1 17 rfl rfl)
theorem dX7_asksOf_42 : decode cX7_asksOf 42 = .ok (.iconst 3, 1) := dk_6 (dk_at dksX7_asksOf_1 20 rfl rfl)
theorem dX7_asksOf_43 : decode cX7_asksOf 43 = .ok (.iload_n 2, 1) := dk_28 (dk_at dksX7_asksOf_1 21 rfl rfl)
theorem dX7_asksOf_44 : decode cX7_asksOf 44 = .ok (.imul, 1) := dk_104 (dk_at dksX7_asksOf_1 22 rfl rfl)
theorem dX7_asksOf_45 : decode cX7_asksOf 45 = .ok (.iconst 1, 1) := dk_4 (dk_at dksX7_asksOf_1 23 rfl rfl)
theorem dX7_asksOf_46 : decode cX7_asksOf 46 = .ok (.iadd, 1) := dk_96 (dk_at dksX7_asksOf_2 0 rfl rfl)
theorem dX7_asksOf_47 : decode cX7_asksOf 47 = .ok (.iaload, 1) := dk_46 (dk_at dksX7_asksOf_2 1 rfl rfl)
theorem dX7_asksOf_48 : decode cX7_asksOf 48 = .ok (.invokestatic 79, 3) := dk_184 0 79 (dk_at dksX7_asksOf_2 2 rfl rfl)
theorem dX7_asksOf_51 : decode cX7_asksOf 51 = .ok (.iastore, 1) := dk_79 (dk_at dksX7_asksOf_2 5 rfl rfl)
theorem dX7_asksOf_52 : decode cX7_asksOf 52 = .ok (.aload_n 0, 1) := dk_42 (dk_at dksX7_asksOf_2 6 rfl rfl)
theorem dX7_asksOf_53 : decode cX7_asksOf 53 = .ok (.getfield 55, 3) := dk_180 0 55 (dk_at dksX7_asksOf_2 7 rfl rfl)
theorem dX7_asksOf_56 : decode cX7_asksOf 56 = .ok (.iconst 3, 1) := dk_6 (dk_at dksX7_asksOf_2 10 rfl rfl)
theorem dX7_asksOf_57 : decode cX7_asksOf 57 = .ok (.aload_n 0, 1) := dk_42 (dk_at dksX7_asksOf_2 11 rfl rfl)
theorem dX7_asksOf_58 : decode cX7_asksOf 58 = .ok (.getfield 83, 3) := dk_180 0 83 (dk_at dksX7_asksOf_2 12 rfl rfl)
theorem dX7_asksOf_61 : decode cX7_asksOf 61 = .ok (.iastore, 1) := dk_79 (dk_at dksX7_asksOf_2 15 rfl rfl)
theorem dX7_asksOf_62 : decode cX7_asksOf 62 = .ok (.aload_n 0, 1) := dk_42 (dk_at dksX7_asksOf_2 16 rfl rfl)
theorem dX7_asksOf_63 : decode cX7_asksOf 63 = .ok (.getfield 55, 3) := dk_180 0 55 (dk_at dksX7_asksOf_2 17 rfl rfl)
theorem dX7_asksOf_66 : decode cX7_asksOf 66 = .ok (.iconst 4, 1) := dk_7 (dk_at dksX7_asksOf_2 20 rfl rfl)
theorem dX7_asksOf_67 : decode cX7_asksOf 67 = .ok (.aload_n 0, 1) := dk_42 (dk_at dksX7_asksOf_2 21 rfl rfl)
theorem dX7_asksOf_68 : decode cX7_asksOf 68 = .ok (.getfield 16, 3) := dk_180 0 16 (dk_at dksX7_asksOf_3 0 rfl rfl)
theorem dX7_asksOf_71 : decode cX7_asksOf 71 = .ok (.iconst 3, 1) := dk_6 (dk_at dksX7_asksOf_3 3 rfl rfl)
theorem dX7_asksOf_72 : decode cX7_asksOf 72 = .ok (.iload_n 2, 1) := dk_28 (dk_at dksX7_asksOf_3 4 rfl rfl)
theorem dX7_asksOf_73 : decode cX7_asksOf 73 = .ok (.imul, 1) := dk_104 (dk_at dksX7_asksOf_3 5 rfl rfl)
theorem dX7_asksOf_74 : decode cX7_asksOf 74 = .ok (.iconst 2, 1) := dk_5 (dk_at dksX7_asksOf_3 6 rfl rfl)
theorem dX7_asksOf_75 : decode cX7_asksOf 75 = .ok (.iadd, 1) := dk_96 (dk_at dksX7_asksOf_3 7 rfl rfl)
theorem dX7_asksOf_76 : decode cX7_asksOf 76 = .ok (.iaload, 1) := dk_46 (dk_at dksX7_asksOf_3 8 rfl rfl)
theorem dX7_asksOf_77 : decode cX7_asksOf 77 = .ok (.iastore, 1) := dk_79 (dk_at dksX7_asksOf_3 9 rfl rfl)
theorem dX7_asksOf_78 : decode cX7_asksOf 78 = .ok (.aload_n 0, 1) := dk_42 (dk_at dksX7_asksOf_3 10 rfl rfl)
theorem dX7_asksOf_79 : decode cX7_asksOf 79 = .ok (.getfield 55, 3) := dk_180 0 55 (dk_at dksX7_asksOf_3 11 rfl rfl)
theorem dX7_asksOf_82 : decode cX7_asksOf 82 = .ok (.iconst 5, 1) := dk_8 (dk_at dksX7_asksOf_3 14 rfl rfl)
theorem dX7_asksOf_83 : decode cX7_asksOf 83 = .ok (.aload_n 0, 1) := dk_42 (dk_at dksX7_asksOf_3 15 rfl rfl)
theorem dX7_asksOf_84 : decode cX7_asksOf 84 = .ok (.getfield 13, 3) := dk_180 0 13 (dk_at dksX7_asksOf_3 16 rfl rfl)
theorem dX7_asksOf_87 : decode cX7_asksOf 87 = .ok (.iload_n 2, 1) := dk_28 (dk_at dksX7_asksOf_3 19 rfl rfl)
theorem dX7_asksOf_88 : decode cX7_asksOf 88 = .ok (.iaload, 1) := dk_46 (dk_at dksX7_asksOf_3 20 rfl rfl)
theorem dX7_asksOf_89 : decode cX7_asksOf 89 = .ok (.iastore, 1) := dk_79 (dk_at dksX7_asksOf_3 21 rfl rfl)
theorem dX7_asksOf_90 : decode cX7_asksOf 90 = .ok (.aload_n 0, 1) := dk_42 (dk_at dksX7_asksOf_3 22 rfl rfl)
theorem dX7_asksOf_91 : decode cX7_asksOf 91 = .ok (.iload_n 1, 1) := dk_27 (dk_at dksX7_asksOf_3 23 rfl rfl)
theorem dX7_asksOf_92 : decode cX7_asksOf 92 = .ok (.invokevirtual 156, 3) := dk_182 0 156 (dk_at dksX7_asksOf_4 0 rfl rfl)
theorem dX7_asksOf_95 : decode cX7_asksOf 95 = .ok (.iload_n 1, 1) := dk_27 (dk_at dksX7_asksOf_4 3 rfl rfl)
theorem dX7_asksOf_96 : decode cX7_asksOf 96 = .ok (.iconst 2, 1) := dk_5 (dk_at dksX7_asksOf_4 4 rfl rfl)
theorem dX7_asksOf_97 : decode cX7_asksOf 97 = .ok (.if_icmp .ne 7, 3) := dk_160 0 7 (dk_at dksX7_asksOf_4 5 rfl rfl)
theorem dX7_asksOf_100 : decode cX7_asksOf 100 = .ok (.iconst 0, 1) := dk_3 (dk_at dksX7_asksOf_4 8 rfl rfl)
theorem dX7_asksOf_101 : decode cX7_asksOf 101 = .ok (.goto 5, 3) := dk_167 0 5 (dk_at dksX7_asksOf_4 9 rfl rfl)
theorem dX7_asksOf_104 : decode cX7_asksOf 104 = .ok (.bipush (-99), 2) := dk_16 157 (dk_at dksX7_asksOf_4 12 rfl rfl)
theorem dX7_asksOf_106 : decode cX7_asksOf 106 = .ok (.iload_n 1, 1) := dk_27 (dk_at dksX7_asksOf_4 14 rfl rfl)
theorem dX7_asksOf_107 : decode cX7_asksOf 107 = .ok (.iconst 2, 1) := dk_5 (dk_at dksX7_asksOf_4 15 rfl rfl)
theorem dX7_asksOf_108 : decode cX7_asksOf 108 = .ok (.if_icmp .ne 8, 3) := dk_160 0 8 (dk_at dksX7_asksOf_4 16 rfl rfl)
theorem dX7_asksOf_111 : decode cX7_asksOf 111 = .ok (.bipush 16, 2) := dk_16 16 (dk_at dksX7_asksOf_4 19 rfl rfl)
theorem dX7_asksOf_113 : decode cX7_asksOf 113 = .ok (.goto 5, 3) := dk_167 0 5 (dk_at dksX7_asksOf_4 21 rfl rfl)
theorem dX7_asksOf_116 : decode cX7_asksOf 116 = .ok (.bipush 99, 2) := dk_16 99 (dk_at dksX7_asksOf_5 0 rfl rfl)
theorem dX7_asksOf_118 : decode cX7_asksOf 118 = .ok (.invokestatic 159, 3) := dk_184 0 159 (dk_at dksX7_asksOf_5 2 rfl rfl)
theorem dX7_asksOf_121 : decode cX7_asksOf 121 = .ok (.ireturn, 1) := dk_172 (dk_at dksX7_asksOf_5 5 rfl rfl)
abbrev cX7_says : ByteArray := prog_19_method_25_code
def yX7_says : MethodName := ⟨RX7, "says", "(I)I"⟩
def dkwX7_says_8 : List UInt8 := [184, 0, 152, 79, 132, 3, 1, 167, 255, 78, 42, 180, 0, 52, 3, 46, 172]
abbrev dktX7_says_8 : List UInt8 := dkwX7_says_8 ++ []
def dkwX7_says_7 : List UInt8 := [180, 0, 52, 28, 4, 100, 21, 4, 42, 180, 0, 52, 28, 4, 100, 46, 42, 180, 0, 52, 28, 46]
abbrev dktX7_says_7 : List UInt8 := dkwX7_says_7 ++ dktX7_says_8
def dkwX7_says_6 : List UInt8 := [180, 0, 52, 28, 4, 100, 42, 180, 0, 52, 28, 4, 100, 46, 116, 79, 167, 0, 33, 132, 2, 255, 42]
abbrev dktX7_says_6 : List UInt8 := dkwX7_says_6 ++ dktX7_says_7
def dkwX7_says_5 : List UInt8 := [28, 4, 100, 46, 154, 0, 7, 4, 167, 0, 4, 3, 79, 167, 0, 60, 21, 4, 16, 19, 160, 0, 23, 42]
abbrev dktX7_says_5 : List UInt8 := dkwX7_says_5 ++ dktX7_says_6
def dkwX7_says_4 : List UInt8 := [132, 2, 1, 167, 0, 94, 21, 4, 16, 13, 160, 0, 30, 42, 180, 0, 52, 28, 4, 100, 42, 180, 0, 52]
abbrev dktX7_says_4 : List UInt8 := dkwX7_says_4 ++ dktX7_says_5
def dkwX7_says_3 : List UInt8 := [21, 4, 16, 11, 162, 0, 13, 42, 180, 0, 55, 21, 4, 46, 167, 0, 8, 21, 4, 18, 138, 100, 79]
abbrev dktX7_says_3 : List UInt8 := dkwX7_says_3 ++ dktX7_says_4
def dkwX7_says_2 : List UInt8 := [29, 96, 46, 54, 4, 21, 4, 18, 138, 162, 0, 10, 21, 4, 16, 11, 162, 0, 37, 42, 180, 0, 52, 28]
abbrev dktX7_says_2 : List UInt8 := dkwX7_says_2 ++ dktX7_says_3
def dkwX7_says_1 : List UInt8 := [180, 0, 89, 104, 27, 96, 4, 96, 46, 162, 0, 165, 42, 180, 0, 22, 17, 0, 200, 42, 180, 0, 89, 104]
abbrev dktX7_says_1 : List UInt8 := dkwX7_says_1 ++ dktX7_says_2
def dkwX7_says_0 : List UInt8 := [3, 61, 42, 180, 0, 25, 7, 42, 180, 0, 89, 104, 27, 96, 46, 62, 29, 42, 180, 0, 25, 7, 42]
abbrev dktX7_says_0 : List UInt8 := dkwX7_says_0 ++ dktX7_says_1
theorem dksX7_says_0 : cX7_says.data.toList.drop 0 = dktX7_says_0 := by decide +kernel
theorem dksX7_says_1 : cX7_says.data.toList.drop 23 = dktX7_says_1 := dk_seg dksX7_says_0 23 rfl rfl
theorem dksX7_says_2 : cX7_says.data.toList.drop 47 = dktX7_says_2 := dk_seg dksX7_says_1 24 rfl rfl
theorem dksX7_says_3 : cX7_says.data.toList.drop 71 = dktX7_says_3 := dk_seg dksX7_says_2 24 rfl rfl
theorem dksX7_says_4 : cX7_says.data.toList.drop 94 = dktX7_says_4 := dk_seg dksX7_says_3 23 rfl rfl
theorem dksX7_says_5 : cX7_says.data.toList.drop 118 = dktX7_says_5 := dk_seg dksX7_says_4 24 rfl rfl
theorem dksX7_says_6 : cX7_says.data.toList.drop 142 = dktX7_says_6 := dk_seg dksX7_says_5 24 rfl rfl
theorem dksX7_says_7 : cX7_says.data.toList.drop 165 = dktX7_says_7 := dk_seg dksX7_says_6 23 rfl rfl
theorem dksX7_says_8 : cX7_says.data.toList.drop 187 = dktX7_says_8 := dk_seg dksX7_says_7 22 rfl rfl
theorem dX7_says_0 : decode cX7_says 0 = .ok (.iconst 0, 1) := dk_3 (dk_at dksX7_says_0 0 rfl rfl)
theorem dX7_says_1 : decode cX7_says 1 = .ok (.istore_n 2, 1) := dk_61 (dk_at dksX7_says_0 1 rfl rfl)
theorem dX7_says_2 : decode cX7_says 2 = .ok (.aload_n 0, 1) := dk_42 (dk_at dksX7_says_0 2 rfl rfl)
theorem dX7_says_3 : decode cX7_says 3 = .ok (.getfield 25, 3) := dk_180 0 25 (dk_at dksX7_says_0 3 rfl rfl)
theorem dX7_says_6 : decode cX7_says 6 = .ok (.iconst 4, 1) := dk_7 (dk_at dksX7_says_0 6 rfl rfl)
theorem dX7_says_7 : decode cX7_says 7 = .ok (.aload_n 0, 1) := dk_42 (dk_at dksX7_says_0 7 rfl rfl)
theorem dX7_says_8 : decode cX7_says 8 = .ok (.getfield 89, 3) := dk_180 0 89 (dk_at dksX7_says_0 8 rfl rfl)
theorem dX7_says_11 : decode cX7_says 11 = .ok (.imul, 1) := dk_104 (dk_at dksX7_says_0 11 rfl rfl)
theorem dX7_says_12 : decode cX7_says 12 = .ok (.iload_n 1, 1) := dk_27 (dk_at dksX7_says_0 12 rfl rfl)
theorem dX7_says_13 : decode cX7_says 13 = .ok (.iadd, 1) := dk_96 (dk_at dksX7_says_0 13 rfl rfl)
theorem dX7_says_14 : decode cX7_says 14 = .ok (.iaload, 1) := dk_46 (dk_at dksX7_says_0 14 rfl rfl)
theorem dX7_says_15 : decode cX7_says 15 = .ok (.istore_n 3, 1) := dk_62 (dk_at dksX7_says_0 15 rfl rfl)
theorem dX7_says_16 : decode cX7_says 16 = .ok (.iload_n 3, 1) := dk_29 (dk_at dksX7_says_0 16 rfl rfl)
theorem dX7_says_17 : decode cX7_says 17 = .ok (.aload_n 0, 1) := dk_42 (dk_at dksX7_says_0 17 rfl rfl)
theorem dX7_says_18 : decode cX7_says 18 = .ok (.getfield 25, 3) := dk_180 0 25 (dk_at dksX7_says_0 18 rfl rfl)
theorem dX7_says_21 : decode cX7_says 21 = .ok (.iconst 4, 1) := dk_7 (dk_at dksX7_says_0 21 rfl rfl)
theorem dX7_says_22 : decode cX7_says 22 = .ok (.aload_n 0, 1) := dk_42 (dk_at dksX7_says_0 22 rfl rfl)
theorem dX7_says_23 : decode cX7_says 23 = .ok (.getfield 89, 3) := dk_180 0 89 (dk_at dksX7_says_1 0 rfl rfl)
theorem dX7_says_26 : decode cX7_says 26 = .ok (.imul, 1) := dk_104 (dk_at dksX7_says_1 3 rfl rfl)
theorem dX7_says_27 : decode cX7_says 27 = .ok (.iload_n 1, 1) := dk_27 (dk_at dksX7_says_1 4 rfl rfl)
theorem dX7_says_28 : decode cX7_says 28 = .ok (.iadd, 1) := dk_96 (dk_at dksX7_says_1 5 rfl rfl)
theorem dX7_says_29 : decode cX7_says 29 = .ok (.iconst 1, 1) := dk_4 (dk_at dksX7_says_1 6 rfl rfl)
theorem dX7_says_30 : decode cX7_says 30 = .ok (.iadd, 1) := dk_96 (dk_at dksX7_says_1 7 rfl rfl)
theorem dX7_says_31 : decode cX7_says 31 = .ok (.iaload, 1) := dk_46 (dk_at dksX7_says_1 8 rfl rfl)
theorem dX7_says_32 : decode cX7_says 32 = .ok (.if_icmp .ge 165, 3) := dk_162 0 165 (dk_at dksX7_says_1 9 rfl rfl)
theorem dX7_says_35 : decode cX7_says 35 = .ok (.aload_n 0, 1) := dk_42 (dk_at dksX7_says_1 12 rfl rfl)
theorem dX7_says_36 : decode cX7_says 36 = .ok (.getfield 22, 3) := dk_180 0 22 (dk_at dksX7_says_1 13 rfl rfl)
theorem dX7_says_39 : decode cX7_says 39 = .ok (.sipush 200, 3) := dk_17 0 200 (dk_at dksX7_says_1 16 rfl rfl)
theorem dX7_says_42 : decode cX7_says 42 = .ok (.aload_n 0, 1) := dk_42 (dk_at dksX7_says_1 19 rfl rfl)
theorem dX7_says_43 : decode cX7_says 43 = .ok (.getfield 89, 3) := dk_180 0 89 (dk_at dksX7_says_1 20 rfl rfl)
theorem dX7_says_46 : decode cX7_says 46 = .ok (.imul, 1) := dk_104 (dk_at dksX7_says_1 23 rfl rfl)
theorem dX7_says_47 : decode cX7_says 47 = .ok (.iload_n 3, 1) := dk_29 (dk_at dksX7_says_2 0 rfl rfl)
theorem dX7_says_48 : decode cX7_says 48 = .ok (.iadd, 1) := dk_96 (dk_at dksX7_says_2 1 rfl rfl)
theorem dX7_says_49 : decode cX7_says 49 = .ok (.iaload, 1) := dk_46 (dk_at dksX7_says_2 2 rfl rfl)
theorem dX7_says_50 : decode cX7_says 50 = .ok (.istore 4, 2) := dk_54 4 (dk_at dksX7_says_2 3 rfl rfl)
theorem dX7_says_52 : decode cX7_says 52 = .ok (.iload 4, 2) := dk_21 4 (dk_at dksX7_says_2 5 rfl rfl)
theorem dX7_says_54 : decode cX7_says 54 = .ok (.ldc 138, 2) := dk_18 138 (dk_at dksX7_says_2 7 rfl rfl)
theorem dX7_says_56 : decode cX7_says 56 = .ok (.if_icmp .ge 10, 3) := dk_162 0 10 (dk_at dksX7_says_2 9 rfl rfl)
theorem dX7_says_59 : decode cX7_says 59 = .ok (.iload 4, 2) := dk_21 4 (dk_at dksX7_says_2 12 rfl rfl)
theorem dX7_says_61 : decode cX7_says 61 = .ok (.bipush 11, 2) := dk_16 11 (dk_at dksX7_says_2 14 rfl rfl)
theorem dX7_says_63 : decode cX7_says 63 = .ok (.if_icmp .ge 37, 3) := dk_162 0 37 (dk_at dksX7_says_2 16 rfl rfl)
theorem dX7_says_66 : decode cX7_says 66 = .ok (.aload_n 0, 1) := dk_42 (dk_at dksX7_says_2 19 rfl rfl)
theorem dX7_says_67 : decode cX7_says 67 = .ok (.getfield 52, 3) := dk_180 0 52 (dk_at dksX7_says_2 20 rfl rfl)
theorem dX7_says_70 : decode cX7_says 70 = .ok (.iload_n 2, 1) := dk_28 (dk_at dksX7_says_2 23 rfl rfl)
theorem dX7_says_71 : decode cX7_says 71 = .ok (.iload 4, 2) := dk_21 4 (dk_at dksX7_says_3 0 rfl rfl)
theorem dX7_says_73 : decode cX7_says 73 = .ok (.bipush 11, 2) := dk_16 11 (dk_at dksX7_says_3 2 rfl rfl)
theorem dX7_says_75 : decode cX7_says 75 = .ok (.if_icmp .ge 13, 3) := dk_162 0 13 (dk_at dksX7_says_3 4 rfl rfl)
theorem dX7_says_78 : decode cX7_says 78 = .ok (.aload_n 0, 1) := dk_42 (dk_at dksX7_says_3 7 rfl rfl)
theorem dX7_says_79 : decode cX7_says 79 = .ok (.getfield 55, 3) := dk_180 0 55 (dk_at dksX7_says_3 8 rfl rfl)
theorem dX7_says_82 : decode cX7_says 82 = .ok (.iload 4, 2) := dk_21 4 (dk_at dksX7_says_3 11 rfl rfl)
theorem dX7_says_84 : decode cX7_says 84 = .ok (.iaload, 1) := dk_46 (dk_at dksX7_says_3 13 rfl rfl)
theorem dX7_says_85 : decode cX7_says 85 = .ok (.goto 8, 3) := dk_167 0 8 (dk_at dksX7_says_3 14 rfl rfl)
theorem dX7_says_88 : decode cX7_says 88 = .ok (.iload 4, 2) := dk_21 4 (dk_at dksX7_says_3 17 rfl rfl)
theorem dX7_says_90 : decode cX7_says 90 = .ok (.ldc 138, 2) := dk_18 138 (dk_at dksX7_says_3 19 rfl rfl)
theorem dX7_says_92 : decode cX7_says 92 = .ok (.isub, 1) := dk_100 (dk_at dksX7_says_3 21 rfl rfl)
theorem dX7_says_93 : decode cX7_says 93 = .ok (.iastore, 1) := dk_79 (dk_at dksX7_says_3 22 rfl rfl)
theorem dX7_says_94 : decode cX7_says 94 = .ok (.iinc 2 1, 3) := dk_132 2 1 (dk_at dksX7_says_4 0 rfl rfl)
theorem dX7_says_97 : decode cX7_says 97 = .ok (.goto 94, 3) := dk_167 0 94 (dk_at dksX7_says_4 3 rfl rfl)
theorem dX7_says_100 : decode cX7_says 100 = .ok (.iload 4, 2) := dk_21 4 (dk_at dksX7_says_4 6 rfl rfl)
theorem dX7_says_102 : decode cX7_says 102 = .ok (.bipush 13, 2) := dk_16 13 (dk_at dksX7_says_4 8 rfl rfl)
theorem dX7_says_104 : decode cX7_says 104 = .ok (.if_icmp .ne 30, 3) := dk_160 0 30 (dk_at dksX7_says_4 10 rfl rfl)
theorem dX7_says_107 : decode cX7_says 107 = .ok (.aload_n 0, 1) := dk_42 (dk_at dksX7_says_4 13 rfl rfl)
theorem dX7_says_108 : decode cX7_says 108 = .ok (.getfield 52, 3) := dk_180 0 52 (dk_at dksX7_says_4 14 rfl rfl)
theorem dX7_says_111 : decode cX7_says 111 = .ok (.iload_n 2, 1) := dk_28 (dk_at dksX7_says_4 17 rfl rfl)
theorem dX7_says_112 : decode cX7_says 112 = .ok (.iconst 1, 1) := dk_4 (dk_at dksX7_says_4 18 rfl rfl)
theorem dX7_says_113 : decode cX7_says 113 = .ok (.isub, 1) := dk_100 (dk_at dksX7_says_4 19 rfl rfl)
theorem dX7_says_114 : decode cX7_says 114 = .ok (.aload_n 0, 1) := dk_42 (dk_at dksX7_says_4 20 rfl rfl)
theorem dX7_says_115 : decode cX7_says 115 = .ok (.getfield 52, 3) := dk_180 0 52 (dk_at dksX7_says_4 21 rfl rfl)
theorem dX7_says_118 : decode cX7_says 118 = .ok (.iload_n 2, 1) := dk_28 (dk_at dksX7_says_5 0 rfl rfl)
theorem dX7_says_119 : decode cX7_says 119 = .ok (.iconst 1, 1) := dk_4 (dk_at dksX7_says_5 1 rfl rfl)
theorem dX7_says_120 : decode cX7_says 120 = .ok (.isub, 1) := dk_100 (dk_at dksX7_says_5 2 rfl rfl)
theorem dX7_says_121 : decode cX7_says 121 = .ok (.iaload, 1) := dk_46 (dk_at dksX7_says_5 3 rfl rfl)
theorem dX7_says_122 : decode cX7_says 122 = .ok (.ifCond .ne 7, 3) := dk_154 0 7 (dk_at dksX7_says_5 4 rfl rfl)
theorem dX7_says_125 : decode cX7_says 125 = .ok (.iconst 1, 1) := dk_4 (dk_at dksX7_says_5 7 rfl rfl)
theorem dX7_says_126 : decode cX7_says 126 = .ok (.goto 4, 3) := dk_167 0 4 (dk_at dksX7_says_5 8 rfl rfl)
theorem dX7_says_129 : decode cX7_says 129 = .ok (.iconst 0, 1) := dk_3 (dk_at dksX7_says_5 11 rfl rfl)
theorem dX7_says_130 : decode cX7_says 130 = .ok (.iastore, 1) := dk_79 (dk_at dksX7_says_5 12 rfl rfl)
theorem dX7_says_131 : decode cX7_says 131 = .ok (.goto 60, 3) := dk_167 0 60 (dk_at dksX7_says_5 13 rfl rfl)
theorem dX7_says_134 : decode cX7_says 134 = .ok (.iload 4, 2) := dk_21 4 (dk_at dksX7_says_5 16 rfl rfl)
theorem dX7_says_136 : decode cX7_says 136 = .ok (.bipush 19, 2) := dk_16 19 (dk_at dksX7_says_5 18 rfl rfl)
theorem dX7_says_138 : decode cX7_says 138 = .ok (.if_icmp .ne 23, 3) := dk_160 0 23 (dk_at dksX7_says_5 20 rfl rfl)
theorem dX7_says_141 : decode cX7_says 141 = .ok (.aload_n 0, 1) := dk_42 (dk_at dksX7_says_5 23 rfl rfl)
theorem dX7_says_142 : decode cX7_says 142 = .ok (.getfield 52, 3) := dk_180 0 52 (dk_at dksX7_says_6 0 rfl rfl)
theorem dX7_says_145 : decode cX7_says 145 = .ok (.iload_n 2, 1) := dk_28 (dk_at dksX7_says_6 3 rfl rfl)
theorem dX7_says_146 : decode cX7_says 146 = .ok (.iconst 1, 1) := dk_4 (dk_at dksX7_says_6 4 rfl rfl)
theorem dX7_says_147 : decode cX7_says 147 = .ok (.isub, 1) := dk_100 (dk_at dksX7_says_6 5 rfl rfl)
theorem dX7_says_148 : decode cX7_says 148 = .ok (.aload_n 0, 1) := dk_42 (dk_at dksX7_says_6 6 rfl rfl)
theorem dX7_says_149 : decode cX7_says 149 = .ok (.getfield 52, 3) := dk_180 0 52 (dk_at dksX7_says_6 7 rfl rfl)
theorem dX7_says_152 : decode cX7_says 152 = .ok (.iload_n 2, 1) := dk_28 (dk_at dksX7_says_6 10 rfl rfl)
theorem dX7_says_153 : decode cX7_says 153 = .ok (.iconst 1, 1) := dk_4 (dk_at dksX7_says_6 11 rfl rfl)
theorem dX7_says_154 : decode cX7_says 154 = .ok (.isub, 1) := dk_100 (dk_at dksX7_says_6 12 rfl rfl)
theorem dX7_says_155 : decode cX7_says 155 = .ok (.iaload, 1) := dk_46 (dk_at dksX7_says_6 13 rfl rfl)
theorem dX7_says_156 : decode cX7_says 156 = .ok (.ineg, 1) := dk_116 (dk_at dksX7_says_6 14 rfl rfl)
theorem dX7_says_157 : decode cX7_says 157 = .ok (.iastore, 1) := dk_79 (dk_at dksX7_says_6 15 rfl rfl)
theorem dX7_says_158 : decode cX7_says 158 = .ok (.goto 33, 3) := dk_167 0 33 (dk_at dksX7_says_6 16 rfl rfl)
theorem dX7_says_161 : decode cX7_says 161 = .ok (.iinc 2 (-1), 3) := dk_132 2 255 (dk_at dksX7_says_6 19 rfl rfl)
theorem dX7_says_164 : decode cX7_says 164 = .ok (.aload_n 0, 1) := dk_42 (dk_at dksX7_says_6 22 rfl rfl)
theorem dX7_says_165 : decode cX7_says 165 = .ok (.getfield 52, 3) := dk_180 0 52 (dk_at dksX7_says_7 0 rfl rfl)
theorem dX7_says_168 : decode cX7_says 168 = .ok (.iload_n 2, 1) := dk_28 (dk_at dksX7_says_7 3 rfl rfl)
theorem dX7_says_169 : decode cX7_says 169 = .ok (.iconst 1, 1) := dk_4 (dk_at dksX7_says_7 4 rfl rfl)
theorem dX7_says_170 : decode cX7_says 170 = .ok (.isub, 1) := dk_100 (dk_at dksX7_says_7 5 rfl rfl)
theorem dX7_says_171 : decode cX7_says 171 = .ok (.iload 4, 2) := dk_21 4 (dk_at dksX7_says_7 6 rfl rfl)
theorem dX7_says_173 : decode cX7_says 173 = .ok (.aload_n 0, 1) := dk_42 (dk_at dksX7_says_7 8 rfl rfl)
theorem dX7_says_174 : decode cX7_says 174 = .ok (.getfield 52, 3) := dk_180 0 52 (dk_at dksX7_says_7 9 rfl rfl)
theorem dX7_says_177 : decode cX7_says 177 = .ok (.iload_n 2, 1) := dk_28 (dk_at dksX7_says_7 12 rfl rfl)
theorem dX7_says_178 : decode cX7_says 178 = .ok (.iconst 1, 1) := dk_4 (dk_at dksX7_says_7 13 rfl rfl)
theorem dX7_says_179 : decode cX7_says 179 = .ok (.isub, 1) := dk_100 (dk_at dksX7_says_7 14 rfl rfl)
theorem dX7_says_180 : decode cX7_says 180 = .ok (.iaload, 1) := dk_46 (dk_at dksX7_says_7 15 rfl rfl)
theorem dX7_says_181 : decode cX7_says 181 = .ok (.aload_n 0, 1) := dk_42 (dk_at dksX7_says_7 16 rfl rfl)
theorem dX7_says_182 : decode cX7_says 182 = .ok (.getfield 52, 3) := dk_180 0 52 (dk_at dksX7_says_7 17 rfl rfl)
theorem dX7_says_185 : decode cX7_says 185 = .ok (.iload_n 2, 1) := dk_28 (dk_at dksX7_says_7 20 rfl rfl)
theorem dX7_says_186 : decode cX7_says 186 = .ok (.iaload, 1) := dk_46 (dk_at dksX7_says_7 21 rfl rfl)
theorem dX7_says_187 : decode cX7_says 187 = .ok (.invokestatic 152, 3) := dk_184 0 152 (dk_at dksX7_says_8 0 rfl rfl)
theorem dX7_says_190 : decode cX7_says 190 = .ok (.iastore, 1) := dk_79 (dk_at dksX7_says_8 3 rfl rfl)
theorem dX7_says_191 : decode cX7_says 191 = .ok (.iinc 3 1, 3) := dk_132 3 1 (dk_at dksX7_says_8 4 rfl rfl)
theorem dX7_says_194 : decode cX7_says 194 = .ok (.goto (-178), 3) := dk_167 255 78 (dk_at dksX7_says_8 7 rfl rfl)
theorem dX7_says_197 : decode cX7_says 197 = .ok (.aload_n 0, 1) := dk_42 (dk_at dksX7_says_8 10 rfl rfl)
theorem dX7_says_198 : decode cX7_says 198 = .ok (.getfield 52, 3) := dk_180 0 52 (dk_at dksX7_says_8 11 rfl rfl)
theorem dX7_says_201 : decode cX7_says 201 = .ok (.iconst 0, 1) := dk_3 (dk_at dksX7_says_8 14 rfl rfl)
theorem dX7_says_202 : decode cX7_says 202 = .ok (.iaload, 1) := dk_46 (dk_at dksX7_says_8 15 rfl rfl)
theorem dX7_says_203 : decode cX7_says 203 = .ok (.ireturn, 1) := dk_172 (dk_at dksX7_says_8 16 rfl rfl)
abbrev cX7_two : ByteArray := prog_19_method_24_code
def yX7_two : MethodName := ⟨RX7, "two", "(III)I"⟩
def dkwX7_two_4 : List UInt8 := [167, 0, 4, 3, 172, 27, 28, 96, 172, 27, 28, 100, 172, 27, 28, 104, 172]
abbrev dktX7_two_4 : List UInt8 := dkwX7_two_4 ++ []
def dkwX7_two_3 : List UInt8 := [167, 0, 4, 3, 172, 27, 28, 162, 0, 7, 4, 167, 0, 4, 3, 172, 27, 28, 160, 0, 7, 4]
abbrev dktX7_two_3 : List UInt8 := dkwX7_two_3 ++ dktX7_two_4
def dkwX7_two_2 : List UInt8 := [27, 154, 0, 7, 28, 153, 0, 7, 4, 167, 0, 4, 3, 172, 27, 153, 0, 11, 28, 153, 0, 7, 4]
abbrev dktX7_two_2 : List UInt8 := dkwX7_two_2 ++ dktX7_two_3
def dkwX7_two_1 : List UInt8 := [170, 0, 0, 0, 0, 0, 101, 0, 0, 0, 11, 0, 0, 0, 17, 0, 0, 0, 43, 0, 0, 0, 57, 0, 0, 0, 101, 0, 0, 0, 71, 0, 0, 0, 82, 0, 0, 0, 93, 0, 0, 0, 97]
abbrev dktX7_two_1 : List UInt8 := dkwX7_two_1 ++ dktX7_two_2
def dkwX7_two_0 : List UInt8 := [26]
abbrev dktX7_two_0 : List UInt8 := dkwX7_two_0 ++ dktX7_two_1
theorem dksX7_two_0 : cX7_two.data.toList.drop 0 = dktX7_two_0 := by decide +kernel
theorem dksX7_two_1 : cX7_two.data.toList.drop 1 = dktX7_two_1 := dk_seg dksX7_two_0 1 rfl rfl
theorem dksX7_two_2 : cX7_two.data.toList.drop 44 = dktX7_two_2 := dk_seg dksX7_two_1 43 rfl rfl
theorem dksX7_two_3 : cX7_two.data.toList.drop 67 = dktX7_two_3 := dk_seg dksX7_two_2 23 rfl rfl
theorem dksX7_two_4 : cX7_two.data.toList.drop 89 = dktX7_two_4 := dk_seg dksX7_two_3 22 rfl rfl
theorem dX7_two_0 : decode cX7_two 0 = .ok (.iload_n 0, 1) := dk_26 (dk_at dksX7_two_0 0 rfl rfl)
theorem dX7_two_1 : decode cX7_two 1 = .ok (.tableswitch 101 11 17 #[43, 57, 101, 71, 82, 93, 97], 43) := by decide +kernel
theorem dX7_two_44 : decode cX7_two 44 = .ok (.iload_n 1, 1) := dk_27 (dk_at dksX7_two_2 0 rfl rfl)
theorem dX7_two_45 : decode cX7_two 45 = .ok (.ifCond .ne 7, 3) := dk_154 0 7 (dk_at dksX7_two_2 1 rfl rfl)
theorem dX7_two_48 : decode cX7_two 48 = .ok (.iload_n 2, 1) := dk_28 (dk_at dksX7_two_2 4 rfl rfl)
theorem dX7_two_49 : decode cX7_two 49 = .ok (.ifCond .eq 7, 3) := dk_153 0 7 (dk_at dksX7_two_2 5 rfl rfl)
theorem dX7_two_52 : decode cX7_two 52 = .ok (.iconst 1, 1) := dk_4 (dk_at dksX7_two_2 8 rfl rfl)
theorem dX7_two_53 : decode cX7_two 53 = .ok (.goto 4, 3) := dk_167 0 4 (dk_at dksX7_two_2 9 rfl rfl)
theorem dX7_two_56 : decode cX7_two 56 = .ok (.iconst 0, 1) := dk_3 (dk_at dksX7_two_2 12 rfl rfl)
theorem dX7_two_57 : decode cX7_two 57 = .ok (.ireturn, 1) := dk_172 (dk_at dksX7_two_2 13 rfl rfl)
theorem dX7_two_58 : decode cX7_two 58 = .ok (.iload_n 1, 1) := dk_27 (dk_at dksX7_two_2 14 rfl rfl)
theorem dX7_two_59 : decode cX7_two 59 = .ok (.ifCond .eq 11, 3) := dk_153 0 11 (dk_at dksX7_two_2 15 rfl rfl)
theorem dX7_two_62 : decode cX7_two 62 = .ok (.iload_n 2, 1) := dk_28 (dk_at dksX7_two_2 18 rfl rfl)
theorem dX7_two_63 : decode cX7_two 63 = .ok (.ifCond .eq 7, 3) := dk_153 0 7 (dk_at dksX7_two_2 19 rfl rfl)
theorem dX7_two_66 : decode cX7_two 66 = .ok (.iconst 1, 1) := dk_4 (dk_at dksX7_two_2 22 rfl rfl)
theorem dX7_two_67 : decode cX7_two 67 = .ok (.goto 4, 3) := dk_167 0 4 (dk_at dksX7_two_3 0 rfl rfl)
theorem dX7_two_70 : decode cX7_two 70 = .ok (.iconst 0, 1) := dk_3 (dk_at dksX7_two_3 3 rfl rfl)
theorem dX7_two_71 : decode cX7_two 71 = .ok (.ireturn, 1) := dk_172 (dk_at dksX7_two_3 4 rfl rfl)
theorem dX7_two_72 : decode cX7_two 72 = .ok (.iload_n 1, 1) := dk_27 (dk_at dksX7_two_3 5 rfl rfl)
theorem dX7_two_73 : decode cX7_two 73 = .ok (.iload_n 2, 1) := dk_28 (dk_at dksX7_two_3 6 rfl rfl)
theorem dX7_two_74 : decode cX7_two 74 = .ok (.if_icmp .ge 7, 3) := dk_162 0 7 (dk_at dksX7_two_3 7 rfl rfl)
theorem dX7_two_77 : decode cX7_two 77 = .ok (.iconst 1, 1) := dk_4 (dk_at dksX7_two_3 10 rfl rfl)
theorem dX7_two_78 : decode cX7_two 78 = .ok (.goto 4, 3) := dk_167 0 4 (dk_at dksX7_two_3 11 rfl rfl)
theorem dX7_two_81 : decode cX7_two 81 = .ok (.iconst 0, 1) := dk_3 (dk_at dksX7_two_3 14 rfl rfl)
theorem dX7_two_82 : decode cX7_two 82 = .ok (.ireturn, 1) := dk_172 (dk_at dksX7_two_3 15 rfl rfl)
theorem dX7_two_83 : decode cX7_two 83 = .ok (.iload_n 1, 1) := dk_27 (dk_at dksX7_two_3 16 rfl rfl)
theorem dX7_two_84 : decode cX7_two 84 = .ok (.iload_n 2, 1) := dk_28 (dk_at dksX7_two_3 17 rfl rfl)
theorem dX7_two_85 : decode cX7_two 85 = .ok (.if_icmp .ne 7, 3) := dk_160 0 7 (dk_at dksX7_two_3 18 rfl rfl)
theorem dX7_two_88 : decode cX7_two 88 = .ok (.iconst 1, 1) := dk_4 (dk_at dksX7_two_3 21 rfl rfl)
theorem dX7_two_89 : decode cX7_two 89 = .ok (.goto 4, 3) := dk_167 0 4 (dk_at dksX7_two_4 0 rfl rfl)
theorem dX7_two_92 : decode cX7_two 92 = .ok (.iconst 0, 1) := dk_3 (dk_at dksX7_two_4 3 rfl rfl)
theorem dX7_two_93 : decode cX7_two 93 = .ok (.ireturn, 1) := dk_172 (dk_at dksX7_two_4 4 rfl rfl)
theorem dX7_two_94 : decode cX7_two 94 = .ok (.iload_n 1, 1) := dk_27 (dk_at dksX7_two_4 5 rfl rfl)
theorem dX7_two_95 : decode cX7_two 95 = .ok (.iload_n 2, 1) := dk_28 (dk_at dksX7_two_4 6 rfl rfl)
theorem dX7_two_96 : decode cX7_two 96 = .ok (.iadd, 1) := dk_96 (dk_at dksX7_two_4 7 rfl rfl)
theorem dX7_two_97 : decode cX7_two 97 = .ok (.ireturn, 1) := dk_172 (dk_at dksX7_two_4 8 rfl rfl)
theorem dX7_two_98 : decode cX7_two 98 = .ok (.iload_n 1, 1) := dk_27 (dk_at dksX7_two_4 9 rfl rfl)
theorem dX7_two_99 : decode cX7_two 99 = .ok (.iload_n 2, 1) := dk_28 (dk_at dksX7_two_4 10 rfl rfl)
theorem dX7_two_100 : decode cX7_two 100 = .ok (.isub, 1) := dk_100 (dk_at dksX7_two_4 11 rfl rfl)
theorem dX7_two_101 : decode cX7_two 101 = .ok (.ireturn, 1) := dk_172 (dk_at dksX7_two_4 12 rfl rfl)
theorem dX7_two_102 : decode cX7_two 102 = .ok (.iload_n 1, 1) := dk_27 (dk_at dksX7_two_4 13 rfl rfl)
theorem dX7_two_103 : decode cX7_two 103 = .ok (.iload_n 2, 1) := dk_28 (dk_at dksX7_two_4 14 rfl rfl)
theorem dX7_two_104 : decode cX7_two 104 = .ok (.imul, 1) := dk_104 (dk_at dksX7_two_4 15 rfl rfl)
theorem dX7_two_105 : decode cX7_two 105 = .ok (.ireturn, 1) := dk_172 (dk_at dksX7_two_4 16 rfl rfl)
abbrev cX7_within : ByteArray := prog_19_method_4_code
def yX7_within : MethodName := ⟨RX7, "within", "(III)I"⟩
def dkwX7_within_0 : List UInt8 := [26, 27, 162, 0, 7, 27, 167, 0, 13, 26, 28, 164, 0, 7, 28, 167, 0, 4, 26, 172]
abbrev dktX7_within_0 : List UInt8 := dkwX7_within_0 ++ []
theorem dksX7_within_0 : cX7_within.data.toList.drop 0 = dktX7_within_0 := by decide +kernel
theorem dX7_within_0 : decode cX7_within 0 = .ok (.iload_n 0, 1) := dk_26 (dk_at dksX7_within_0 0 rfl rfl)
theorem dX7_within_1 : decode cX7_within 1 = .ok (.iload_n 1, 1) := dk_27 (dk_at dksX7_within_0 1 rfl rfl)
theorem dX7_within_2 : decode cX7_within 2 = .ok (.if_icmp .ge 7, 3) := dk_162 0 7 (dk_at dksX7_within_0 2 rfl rfl)
theorem dX7_within_5 : decode cX7_within 5 = .ok (.iload_n 1, 1) := dk_27 (dk_at dksX7_within_0 5 rfl rfl)
theorem dX7_within_6 : decode cX7_within 6 = .ok (.goto 13, 3) := dk_167 0 13 (dk_at dksX7_within_0 6 rfl rfl)
theorem dX7_within_9 : decode cX7_within 9 = .ok (.iload_n 0, 1) := dk_26 (dk_at dksX7_within_0 9 rfl rfl)
theorem dX7_within_10 : decode cX7_within 10 = .ok (.iload_n 2, 1) := dk_28 (dk_at dksX7_within_0 10 rfl rfl)
theorem dX7_within_11 : decode cX7_within 11 = .ok (.if_icmp .le 7, 3) := dk_164 0 7 (dk_at dksX7_within_0 11 rfl rfl)
theorem dX7_within_14 : decode cX7_within 14 = .ok (.iload_n 2, 1) := dk_28 (dk_at dksX7_within_0 14 rfl rfl)
theorem dX7_within_15 : decode cX7_within 15 = .ok (.goto 4, 3) := dk_167 0 4 (dk_at dksX7_within_0 15 rfl rfl)
theorem dX7_within_18 : decode cX7_within 18 = .ok (.iload_n 0, 1) := dk_26 (dk_at dksX7_within_0 18 rfl rfl)
theorem dX7_within_19 : decode cX7_within 19 = .ok (.ireturn, 1) := dk_172 (dk_at dksX7_within_0 19 rfl rfl)
abbrev cX7_fisher : ByteArray := prog_19_method_29_code
def yX7_fisher : MethodName := ⟨RX7, "fisher", "(II)I"⟩
def dkwX7_fisher_4 : List UInt8 := [104, 5, 96, 16, 50, 79, 42, 89, 180, 0, 69, 4, 96, 181, 0, 69, 42, 180, 0, 69, 4, 100, 172]
abbrev dktX7_fisher_4 : List UInt8 := dkwX7_fisher_4 ++ []
def dkwX7_fisher_3 : List UInt8 := [79, 42, 180, 0, 16, 6, 42, 180, 0, 69, 104, 4, 96, 3, 79, 42, 180, 0, 16, 6, 42, 180, 0, 69]
abbrev dktX7_fisher_3 : List UInt8 := dkwX7_fisher_3 ++ dktX7_fisher_4
def dkwX7_fisher_2 : List UInt8 := [42, 180, 0, 13, 42, 180, 0, 69, 27, 16, 10, 112, 79, 42, 180, 0, 16, 6, 42, 180, 0, 69, 104, 28]
abbrev dktX7_fisher_2 : List UInt8 := dkwX7_fisher_2 ++ dktX7_fisher_3
def dkwX7_fisher_1 : List UInt8 := [180, 0, 69, 16, 6, 160, 0, 6, 16, 252, 172, 42, 180, 0, 7, 42, 180, 0, 69, 27, 16, 10, 108, 79]
abbrev dktX7_fisher_1 : List UInt8 := dkwX7_fisher_1 ++ dktX7_fisher_2
def dkwX7_fisher_0 : List UInt8 := [27, 3, 16, 59, 184, 0, 72, 153, 0, 13, 28, 3, 18, 92, 184, 0, 72, 154, 0, 6, 16, 254, 172, 42]
abbrev dktX7_fisher_0 : List UInt8 := dkwX7_fisher_0 ++ dktX7_fisher_1
theorem dksX7_fisher_0 : cX7_fisher.data.toList.drop 0 = dktX7_fisher_0 := by decide +kernel
theorem dksX7_fisher_1 : cX7_fisher.data.toList.drop 24 = dktX7_fisher_1 := dk_seg dksX7_fisher_0 24 rfl rfl
theorem dksX7_fisher_2 : cX7_fisher.data.toList.drop 48 = dktX7_fisher_2 := dk_seg dksX7_fisher_1 24 rfl rfl
theorem dksX7_fisher_3 : cX7_fisher.data.toList.drop 72 = dktX7_fisher_3 := dk_seg dksX7_fisher_2 24 rfl rfl
theorem dksX7_fisher_4 : cX7_fisher.data.toList.drop 96 = dktX7_fisher_4 := dk_seg dksX7_fisher_3 24 rfl rfl
theorem dX7_fisher_0 : decode cX7_fisher 0 = .ok (.iload_n 1, 1) := dk_27 (dk_at dksX7_fisher_0 0 rfl rfl)
theorem dX7_fisher_1 : decode cX7_fisher 1 = .ok (.iconst 0, 1) := dk_3 (dk_at dksX7_fisher_0 1 rfl rfl)
theorem dX7_fisher_2 : decode cX7_fisher 2 = .ok (.bipush 59, 2) := dk_16 59 (dk_at dksX7_fisher_0 2 rfl rfl)
theorem dX7_fisher_4 : decode cX7_fisher 4 = .ok (.invokestatic 72, 3) := dk_184 0 72 (dk_at dksX7_fisher_0 4 rfl rfl)
theorem dX7_fisher_7 : decode cX7_fisher 7 = .ok (.ifCond .eq 13, 3) := dk_153 0 13 (dk_at dksX7_fisher_0 7 rfl rfl)
theorem dX7_fisher_10 : decode cX7_fisher 10 = .ok (.iload_n 2, 1) := dk_28 (dk_at dksX7_fisher_0 10 rfl rfl)
theorem dX7_fisher_11 : decode cX7_fisher 11 = .ok (.iconst 0, 1) := dk_3 (dk_at dksX7_fisher_0 11 rfl rfl)
theorem dX7_fisher_12 : decode cX7_fisher 12 = .ok (.ldc 92, 2) := dk_18 92 (dk_at dksX7_fisher_0 12 rfl rfl)
theorem dX7_fisher_14 : decode cX7_fisher 14 = .ok (.invokestatic 72, 3) := dk_184 0 72 (dk_at dksX7_fisher_0 14 rfl rfl)
theorem dX7_fisher_17 : decode cX7_fisher 17 = .ok (.ifCond .ne 6, 3) := dk_154 0 6 (dk_at dksX7_fisher_0 17 rfl rfl)
theorem dX7_fisher_20 : decode cX7_fisher 20 = .ok (.bipush (-2), 2) := dk_16 254 (dk_at dksX7_fisher_0 20 rfl rfl)
theorem dX7_fisher_22 : decode cX7_fisher 22 = .ok (.ireturn, 1) := dk_172 (dk_at dksX7_fisher_0 22 rfl rfl)
theorem dX7_fisher_23 : decode cX7_fisher 23 = .ok (.aload_n 0, 1) := dk_42 (dk_at dksX7_fisher_0 23 rfl rfl)
theorem dX7_fisher_24 : decode cX7_fisher 24 = .ok (.getfield 69, 3) := dk_180 0 69 (dk_at dksX7_fisher_1 0 rfl rfl)
theorem dX7_fisher_27 : decode cX7_fisher 27 = .ok (.bipush 6, 2) := dk_16 6 (dk_at dksX7_fisher_1 3 rfl rfl)
theorem dX7_fisher_29 : decode cX7_fisher 29 = .ok (.if_icmp .ne 6, 3) := dk_160 0 6 (dk_at dksX7_fisher_1 5 rfl rfl)
theorem dX7_fisher_32 : decode cX7_fisher 32 = .ok (.bipush (-4), 2) := dk_16 252 (dk_at dksX7_fisher_1 8 rfl rfl)
theorem dX7_fisher_34 : decode cX7_fisher 34 = .ok (.ireturn, 1) := dk_172 (dk_at dksX7_fisher_1 10 rfl rfl)
theorem dX7_fisher_35 : decode cX7_fisher 35 = .ok (.aload_n 0, 1) := dk_42 (dk_at dksX7_fisher_1 11 rfl rfl)
theorem dX7_fisher_36 : decode cX7_fisher 36 = .ok (.getfield 7, 3) := dk_180 0 7 (dk_at dksX7_fisher_1 12 rfl rfl)
theorem dX7_fisher_39 : decode cX7_fisher 39 = .ok (.aload_n 0, 1) := dk_42 (dk_at dksX7_fisher_1 15 rfl rfl)
theorem dX7_fisher_40 : decode cX7_fisher 40 = .ok (.getfield 69, 3) := dk_180 0 69 (dk_at dksX7_fisher_1 16 rfl rfl)
theorem dX7_fisher_43 : decode cX7_fisher 43 = .ok (.iload_n 1, 1) := dk_27 (dk_at dksX7_fisher_1 19 rfl rfl)
theorem dX7_fisher_44 : decode cX7_fisher 44 = .ok (.bipush 10, 2) := dk_16 10 (dk_at dksX7_fisher_1 20 rfl rfl)
theorem dX7_fisher_46 : decode cX7_fisher 46 = .ok (.idiv, 1) := dk_108 (dk_at dksX7_fisher_1 22 rfl rfl)
theorem dX7_fisher_47 : decode cX7_fisher 47 = .ok (.iastore, 1) := dk_79 (dk_at dksX7_fisher_1 23 rfl rfl)
theorem dX7_fisher_48 : decode cX7_fisher 48 = .ok (.aload_n 0, 1) := dk_42 (dk_at dksX7_fisher_2 0 rfl rfl)
theorem dX7_fisher_49 : decode cX7_fisher 49 = .ok (.getfield 13, 3) := dk_180 0 13 (dk_at dksX7_fisher_2 1 rfl rfl)
theorem dX7_fisher_52 : decode cX7_fisher 52 = .ok (.aload_n 0, 1) := dk_42 (dk_at dksX7_fisher_2 4 rfl rfl)
theorem dX7_fisher_53 : decode cX7_fisher 53 = .ok (.getfield 69, 3) := dk_180 0 69 (dk_at dksX7_fisher_2 5 rfl rfl)
theorem dX7_fisher_56 : decode cX7_fisher 56 = .ok (.iload_n 1, 1) := dk_27 (dk_at dksX7_fisher_2 8 rfl rfl)
theorem dX7_fisher_57 : decode cX7_fisher 57 = .ok (.bipush 10, 2) := dk_16 10 (dk_at dksX7_fisher_2 9 rfl rfl)
theorem dX7_fisher_59 : decode cX7_fisher 59 = .ok (.irem, 1) := dk_112 (dk_at dksX7_fisher_2 11 rfl rfl)
theorem dX7_fisher_60 : decode cX7_fisher 60 = .ok (.iastore, 1) := dk_79 (dk_at dksX7_fisher_2 12 rfl rfl)
theorem dX7_fisher_61 : decode cX7_fisher 61 = .ok (.aload_n 0, 1) := dk_42 (dk_at dksX7_fisher_2 13 rfl rfl)
theorem dX7_fisher_62 : decode cX7_fisher 62 = .ok (.getfield 16, 3) := dk_180 0 16 (dk_at dksX7_fisher_2 14 rfl rfl)
theorem dX7_fisher_65 : decode cX7_fisher 65 = .ok (.iconst 3, 1) := dk_6 (dk_at dksX7_fisher_2 17 rfl rfl)
theorem dX7_fisher_66 : decode cX7_fisher 66 = .ok (.aload_n 0, 1) := dk_42 (dk_at dksX7_fisher_2 18 rfl rfl)
theorem dX7_fisher_67 : decode cX7_fisher 67 = .ok (.getfield 69, 3) := dk_180 0 69 (dk_at dksX7_fisher_2 19 rfl rfl)
theorem dX7_fisher_70 : decode cX7_fisher 70 = .ok (.imul, 1) := dk_104 (dk_at dksX7_fisher_2 22 rfl rfl)
theorem dX7_fisher_71 : decode cX7_fisher 71 = .ok (.iload_n 2, 1) := dk_28 (dk_at dksX7_fisher_2 23 rfl rfl)
theorem dX7_fisher_72 : decode cX7_fisher 72 = .ok (.iastore, 1) := dk_79 (dk_at dksX7_fisher_3 0 rfl rfl)
theorem dX7_fisher_73 : decode cX7_fisher 73 = .ok (.aload_n 0, 1) := dk_42 (dk_at dksX7_fisher_3 1 rfl rfl)
theorem dX7_fisher_74 : decode cX7_fisher 74 = .ok (.getfield 16, 3) := dk_180 0 16 (dk_at dksX7_fisher_3 2 rfl rfl)
theorem dX7_fisher_77 : decode cX7_fisher 77 = .ok (.iconst 3, 1) := dk_6 (dk_at dksX7_fisher_3 5 rfl rfl)
theorem dX7_fisher_78 : decode cX7_fisher 78 = .ok (.aload_n 0, 1) := dk_42 (dk_at dksX7_fisher_3 6 rfl rfl)
theorem dX7_fisher_79 : decode cX7_fisher 79 = .ok (.getfield 69, 3) := dk_180 0 69 (dk_at dksX7_fisher_3 7 rfl rfl)
theorem dX7_fisher_82 : decode cX7_fisher 82 = .ok (.imul, 1) := dk_104 (dk_at dksX7_fisher_3 10 rfl rfl)
theorem dX7_fisher_83 : decode cX7_fisher 83 = .ok (.iconst 1, 1) := dk_4 (dk_at dksX7_fisher_3 11 rfl rfl)
theorem dX7_fisher_84 : decode cX7_fisher 84 = .ok (.iadd, 1) := dk_96 (dk_at dksX7_fisher_3 12 rfl rfl)
theorem dX7_fisher_85 : decode cX7_fisher 85 = .ok (.iconst 0, 1) := dk_3 (dk_at dksX7_fisher_3 13 rfl rfl)
theorem dX7_fisher_86 : decode cX7_fisher 86 = .ok (.iastore, 1) := dk_79 (dk_at dksX7_fisher_3 14 rfl rfl)
theorem dX7_fisher_87 : decode cX7_fisher 87 = .ok (.aload_n 0, 1) := dk_42 (dk_at dksX7_fisher_3 15 rfl rfl)
theorem dX7_fisher_88 : decode cX7_fisher 88 = .ok (.getfield 16, 3) := dk_180 0 16 (dk_at dksX7_fisher_3 16 rfl rfl)
theorem dX7_fisher_91 : decode cX7_fisher 91 = .ok (.iconst 3, 1) := dk_6 (dk_at dksX7_fisher_3 19 rfl rfl)
theorem dX7_fisher_92 : decode cX7_fisher 92 = .ok (.aload_n 0, 1) := dk_42 (dk_at dksX7_fisher_3 20 rfl rfl)
theorem dX7_fisher_93 : decode cX7_fisher 93 = .ok (.getfield 69, 3) := dk_180 0 69 (dk_at dksX7_fisher_3 21 rfl rfl)
theorem dX7_fisher_96 : decode cX7_fisher 96 = .ok (.imul, 1) := dk_104 (dk_at dksX7_fisher_4 0 rfl rfl)
theorem dX7_fisher_97 : decode cX7_fisher 97 = .ok (.iconst 2, 1) := dk_5 (dk_at dksX7_fisher_4 1 rfl rfl)
theorem dX7_fisher_98 : decode cX7_fisher 98 = .ok (.iadd, 1) := dk_96 (dk_at dksX7_fisher_4 2 rfl rfl)
theorem dX7_fisher_99 : decode cX7_fisher 99 = .ok (.bipush 50, 2) := dk_16 50 (dk_at dksX7_fisher_4 3 rfl rfl)
theorem dX7_fisher_101 : decode cX7_fisher 101 = .ok (.iastore, 1) := dk_79 (dk_at dksX7_fisher_4 5 rfl rfl)
theorem dX7_fisher_102 : decode cX7_fisher 102 = .ok (.aload_n 0, 1) := dk_42 (dk_at dksX7_fisher_4 6 rfl rfl)
theorem dX7_fisher_103 : decode cX7_fisher 103 = .ok (.dup, 1) := dk_89 (dk_at dksX7_fisher_4 7 rfl rfl)
theorem dX7_fisher_104 : decode cX7_fisher 104 = .ok (.getfield 69, 3) := dk_180 0 69 (dk_at dksX7_fisher_4 8 rfl rfl)
theorem dX7_fisher_107 : decode cX7_fisher 107 = .ok (.iconst 1, 1) := dk_4 (dk_at dksX7_fisher_4 11 rfl rfl)
theorem dX7_fisher_108 : decode cX7_fisher 108 = .ok (.iadd, 1) := dk_96 (dk_at dksX7_fisher_4 12 rfl rfl)
theorem dX7_fisher_109 : decode cX7_fisher 109 = .ok (.putfield 69, 3) := dk_181 0 69 (dk_at dksX7_fisher_4 13 rfl rfl)
theorem dX7_fisher_112 : decode cX7_fisher 112 = .ok (.aload_n 0, 1) := dk_42 (dk_at dksX7_fisher_4 16 rfl rfl)
theorem dX7_fisher_113 : decode cX7_fisher 113 = .ok (.getfield 69, 3) := dk_180 0 69 (dk_at dksX7_fisher_4 17 rfl rfl)
theorem dX7_fisher_116 : decode cX7_fisher 116 = .ok (.iconst 1, 1) := dk_4 (dk_at dksX7_fisher_4 20 rfl rfl)
theorem dX7_fisher_117 : decode cX7_fisher 117 = .ok (.isub, 1) := dk_100 (dk_at dksX7_fisher_4 21 rfl rfl)
theorem dX7_fisher_118 : decode cX7_fisher 118 = .ok (.ireturn, 1) := dk_172 (dk_at dksX7_fisher_4 22 rfl rfl)
abbrev cX7_put : ByteArray := prog_19_method_30_code
def yX7_put : MethodName := ⟨RX7, "put", "(III)I"⟩
def dkwX7_put_2 : List UInt8 := [27, 104, 28, 96, 46, 54, 4, 42, 180, 0, 16, 6, 27, 104, 28, 96, 29, 79, 21, 4, 172]
abbrev dktX7_put_2 : List UInt8 := dkwX7_put_2 ++ []
def dkwX7_put_1 : List UInt8 := [160, 0, 8, 16, 99, 167, 0, 5, 18, 92, 184, 0, 72, 154, 0, 6, 16, 249, 172, 42, 180, 0, 16, 6]
abbrev dktX7_put_1 : List UInt8 := dkwX7_put_1 ++ dktX7_put_2
def dkwX7_put_0 : List UInt8 := [42, 27, 182, 0, 162, 154, 0, 6, 16, 251, 172, 28, 3, 5, 184, 0, 72, 153, 0, 23, 29, 3, 28, 5]
abbrev dktX7_put_0 : List UInt8 := dkwX7_put_0 ++ dktX7_put_1
theorem dksX7_put_0 : cX7_put.data.toList.drop 0 = dktX7_put_0 := by decide +kernel
theorem dksX7_put_1 : cX7_put.data.toList.drop 24 = dktX7_put_1 := dk_seg dksX7_put_0 24 rfl rfl
theorem dksX7_put_2 : cX7_put.data.toList.drop 48 = dktX7_put_2 := dk_seg dksX7_put_1 24 rfl rfl
theorem dX7_put_0 : decode cX7_put 0 = .ok (.aload_n 0, 1) := dk_42 (dk_at dksX7_put_0 0 rfl rfl)
theorem dX7_put_1 : decode cX7_put 1 = .ok (.iload_n 1, 1) := dk_27 (dk_at dksX7_put_0 1 rfl rfl)
theorem dX7_put_2 : decode cX7_put 2 = .ok (.invokevirtual 162, 3) := dk_182 0 162 (dk_at dksX7_put_0 2 rfl rfl)
theorem dX7_put_5 : decode cX7_put 5 = .ok (.ifCond .ne 6, 3) := dk_154 0 6 (dk_at dksX7_put_0 5 rfl rfl)
theorem dX7_put_8 : decode cX7_put 8 = .ok (.bipush (-5), 2) := dk_16 251 (dk_at dksX7_put_0 8 rfl rfl)
theorem dX7_put_10 : decode cX7_put 10 = .ok (.ireturn, 1) := dk_172 (dk_at dksX7_put_0 10 rfl rfl)
theorem dX7_put_11 : decode cX7_put 11 = .ok (.iload_n 2, 1) := dk_28 (dk_at dksX7_put_0 11 rfl rfl)
theorem dX7_put_12 : decode cX7_put 12 = .ok (.iconst 0, 1) := dk_3 (dk_at dksX7_put_0 12 rfl rfl)
theorem dX7_put_13 : decode cX7_put 13 = .ok (.iconst 2, 1) := dk_5 (dk_at dksX7_put_0 13 rfl rfl)
theorem dX7_put_14 : decode cX7_put 14 = .ok (.invokestatic 72, 3) := dk_184 0 72 (dk_at dksX7_put_0 14 rfl rfl)
theorem dX7_put_17 : decode cX7_put 17 = .ok (.ifCond .eq 23, 3) := dk_153 0 23 (dk_at dksX7_put_0 17 rfl rfl)
theorem dX7_put_20 : decode cX7_put 20 = .ok (.iload_n 3, 1) := dk_29 (dk_at dksX7_put_0 20 rfl rfl)
theorem dX7_put_21 : decode cX7_put 21 = .ok (.iconst 0, 1) := dk_3 (dk_at dksX7_put_0 21 rfl rfl)
theorem dX7_put_22 : decode cX7_put 22 = .ok (.iload_n 2, 1) := dk_28 (dk_at dksX7_put_0 22 rfl rfl)
theorem dX7_put_23 : decode cX7_put 23 = .ok (.iconst 2, 1) := dk_5 (dk_at dksX7_put_0 23 rfl rfl)
theorem dX7_put_24 : decode cX7_put 24 = .ok (.if_icmp .ne 8, 3) := dk_160 0 8 (dk_at dksX7_put_1 0 rfl rfl)
theorem dX7_put_27 : decode cX7_put 27 = .ok (.bipush 99, 2) := dk_16 99 (dk_at dksX7_put_1 3 rfl rfl)
theorem dX7_put_29 : decode cX7_put 29 = .ok (.goto 5, 3) := dk_167 0 5 (dk_at dksX7_put_1 5 rfl rfl)
theorem dX7_put_32 : decode cX7_put 32 = .ok (.ldc 92, 2) := dk_18 92 (dk_at dksX7_put_1 8 rfl rfl)
theorem dX7_put_34 : decode cX7_put 34 = .ok (.invokestatic 72, 3) := dk_184 0 72 (dk_at dksX7_put_1 10 rfl rfl)
theorem dX7_put_37 : decode cX7_put 37 = .ok (.ifCond .ne 6, 3) := dk_154 0 6 (dk_at dksX7_put_1 13 rfl rfl)
theorem dX7_put_40 : decode cX7_put 40 = .ok (.bipush (-7), 2) := dk_16 249 (dk_at dksX7_put_1 16 rfl rfl)
theorem dX7_put_42 : decode cX7_put 42 = .ok (.ireturn, 1) := dk_172 (dk_at dksX7_put_1 18 rfl rfl)
theorem dX7_put_43 : decode cX7_put 43 = .ok (.aload_n 0, 1) := dk_42 (dk_at dksX7_put_1 19 rfl rfl)
theorem dX7_put_44 : decode cX7_put 44 = .ok (.getfield 16, 3) := dk_180 0 16 (dk_at dksX7_put_1 20 rfl rfl)
theorem dX7_put_47 : decode cX7_put 47 = .ok (.iconst 3, 1) := dk_6 (dk_at dksX7_put_1 23 rfl rfl)
theorem dX7_put_48 : decode cX7_put 48 = .ok (.iload_n 1, 1) := dk_27 (dk_at dksX7_put_2 0 rfl rfl)
theorem dX7_put_49 : decode cX7_put 49 = .ok (.imul, 1) := dk_104 (dk_at dksX7_put_2 1 rfl rfl)
theorem dX7_put_50 : decode cX7_put 50 = .ok (.iload_n 2, 1) := dk_28 (dk_at dksX7_put_2 2 rfl rfl)
theorem dX7_put_51 : decode cX7_put 51 = .ok (.iadd, 1) := dk_96 (dk_at dksX7_put_2 3 rfl rfl)
theorem dX7_put_52 : decode cX7_put 52 = .ok (.iaload, 1) := dk_46 (dk_at dksX7_put_2 4 rfl rfl)
theorem dX7_put_53 : decode cX7_put 53 = .ok (.istore 4, 2) := dk_54 4 (dk_at dksX7_put_2 5 rfl rfl)
theorem dX7_put_55 : decode cX7_put 55 = .ok (.aload_n 0, 1) := dk_42 (dk_at dksX7_put_2 7 rfl rfl)
theorem dX7_put_56 : decode cX7_put 56 = .ok (.getfield 16, 3) := dk_180 0 16 (dk_at dksX7_put_2 8 rfl rfl)
theorem dX7_put_59 : decode cX7_put 59 = .ok (.iconst 3, 1) := dk_6 (dk_at dksX7_put_2 11 rfl rfl)
theorem dX7_put_60 : decode cX7_put 60 = .ok (.iload_n 1, 1) := dk_27 (dk_at dksX7_put_2 12 rfl rfl)
theorem dX7_put_61 : decode cX7_put 61 = .ok (.imul, 1) := dk_104 (dk_at dksX7_put_2 13 rfl rfl)
theorem dX7_put_62 : decode cX7_put 62 = .ok (.iload_n 2, 1) := dk_28 (dk_at dksX7_put_2 14 rfl rfl)
theorem dX7_put_63 : decode cX7_put 63 = .ok (.iadd, 1) := dk_96 (dk_at dksX7_put_2 15 rfl rfl)
theorem dX7_put_64 : decode cX7_put 64 = .ok (.iload_n 3, 1) := dk_29 (dk_at dksX7_put_2 16 rfl rfl)
theorem dX7_put_65 : decode cX7_put 65 = .ok (.iastore, 1) := dk_79 (dk_at dksX7_put_2 17 rfl rfl)
theorem dX7_put_66 : decode cX7_put 66 = .ok (.iload 4, 2) := dk_21 4 (dk_at dksX7_put_2 18 rfl rfl)
theorem dX7_put_68 : decode cX7_put 68 = .ok (.ireturn, 1) := dk_172 (dk_at dksX7_put_2 20 rfl rfl)
abbrev cX7_told : ByteArray := prog_19_method_34_code
def yX7_told : MethodName := ⟨RX7, "told", "(II)I"⟩
def dkwX7_told_4 : List UInt8 := [27, 182, 0, 174, 172, 16, 249, 172]
abbrev dktX7_told_4 : List UInt8 := dkwX7_told_4 ++ []
def dkwX7_told_3 : List UInt8 := [172, 42, 180, 0, 16, 6, 27, 104, 4, 96, 46, 42, 180, 0, 16, 6, 27, 104, 46, 2, 130, 126, 172, 42]
abbrev dktX7_told_3 : List UInt8 := dkwX7_told_3 ++ dktX7_told_4
def dkwX7_told_2 : List UInt8 := [42, 180, 0, 16, 6, 27, 104, 28, 96, 46, 172, 42, 180, 0, 7, 27, 46, 172, 42, 180, 0, 13, 27, 46]
abbrev dktX7_told_2 : List UInt8 := dkwX7_told_2 ++ dktX7_told_3
def dkwX7_told_1 : List UInt8 := [170, 0, 0, 0, 0, 0, 0, 97, 0, 0, 0, 0, 0, 0, 0, 6, 0, 0, 0, 44, 0, 0, 0, 44, 0, 0, 0, 44, 0, 0, 0, 55, 0, 0, 0, 62, 0, 0, 0, 69, 0, 0, 0, 91]
abbrev dktX7_told_1 : List UInt8 := dkwX7_told_1 ++ dktX7_told_2
def dkwX7_told_0 : List UInt8 := [42, 27, 182, 0, 162, 154, 0, 6, 16, 251, 172, 28]
abbrev dktX7_told_0 : List UInt8 := dkwX7_told_0 ++ dktX7_told_1
theorem dksX7_told_0 : cX7_told.data.toList.drop 0 = dktX7_told_0 := by decide +kernel
theorem dksX7_told_1 : cX7_told.data.toList.drop 12 = dktX7_told_1 := dk_seg dksX7_told_0 12 rfl rfl
theorem dksX7_told_2 : cX7_told.data.toList.drop 56 = dktX7_told_2 := dk_seg dksX7_told_1 44 rfl rfl
theorem dksX7_told_3 : cX7_told.data.toList.drop 80 = dktX7_told_3 := dk_seg dksX7_told_2 24 rfl rfl
theorem dksX7_told_4 : cX7_told.data.toList.drop 104 = dktX7_told_4 := dk_seg dksX7_told_3 24 rfl rfl
theorem dX7_told_0 : decode cX7_told 0 = .ok (.aload_n 0, 1) := dk_42 (dk_at dksX7_told_0 0 rfl rfl)
theorem dX7_told_1 : decode cX7_told 1 = .ok (.iload_n 1, 1) := dk_27 (dk_at dksX7_told_0 1 rfl rfl)
theorem dX7_told_2 : decode cX7_told 2 = .ok (.invokevirtual 162, 3) := dk_182 0 162 (dk_at dksX7_told_0 2 rfl rfl)
theorem dX7_told_5 : decode cX7_told 5 = .ok (.ifCond .ne 6, 3) := dk_154 0 6 (dk_at dksX7_told_0 5 rfl rfl)
theorem dX7_told_8 : decode cX7_told 8 = .ok (.bipush (-5), 2) := dk_16 251 (dk_at dksX7_told_0 8 rfl rfl)
theorem dX7_told_10 : decode cX7_told 10 = .ok (.ireturn, 1) := dk_172 (dk_at dksX7_told_0 10 rfl rfl)
theorem dX7_told_11 : decode cX7_told 11 = .ok (.iload_n 2, 1) := dk_28 (dk_at dksX7_told_0 11 rfl rfl)
theorem dX7_told_12 : decode cX7_told 12 = .ok (.tableswitch 97 0 6 #[44, 44, 44, 55, 62, 69, 91], 44) := by decide +kernel
theorem dX7_told_56 : decode cX7_told 56 = .ok (.aload_n 0, 1) := dk_42 (dk_at dksX7_told_2 0 rfl rfl)
theorem dX7_told_57 : decode cX7_told 57 = .ok (.getfield 16, 3) := dk_180 0 16 (dk_at dksX7_told_2 1 rfl rfl)
theorem dX7_told_60 : decode cX7_told 60 = .ok (.iconst 3, 1) := dk_6 (dk_at dksX7_told_2 4 rfl rfl)
theorem dX7_told_61 : decode cX7_told 61 = .ok (.iload_n 1, 1) := dk_27 (dk_at dksX7_told_2 5 rfl rfl)
theorem dX7_told_62 : decode cX7_told 62 = .ok (.imul, 1) := dk_104 (dk_at dksX7_told_2 6 rfl rfl)
theorem dX7_told_63 : decode cX7_told 63 = .ok (.iload_n 2, 1) := dk_28 (dk_at dksX7_told_2 7 rfl rfl)
theorem dX7_told_64 : decode cX7_told 64 = .ok (.iadd, 1) := dk_96 (dk_at dksX7_told_2 8 rfl rfl)
theorem dX7_told_65 : decode cX7_told 65 = .ok (.iaload, 1) := dk_46 (dk_at dksX7_told_2 9 rfl rfl)
theorem dX7_told_66 : decode cX7_told 66 = .ok (.ireturn, 1) := dk_172 (dk_at dksX7_told_2 10 rfl rfl)
theorem dX7_told_67 : decode cX7_told 67 = .ok (.aload_n 0, 1) := dk_42 (dk_at dksX7_told_2 11 rfl rfl)
theorem dX7_told_68 : decode cX7_told 68 = .ok (.getfield 7, 3) := dk_180 0 7 (dk_at dksX7_told_2 12 rfl rfl)
theorem dX7_told_71 : decode cX7_told 71 = .ok (.iload_n 1, 1) := dk_27 (dk_at dksX7_told_2 15 rfl rfl)
theorem dX7_told_72 : decode cX7_told 72 = .ok (.iaload, 1) := dk_46 (dk_at dksX7_told_2 16 rfl rfl)
theorem dX7_told_73 : decode cX7_told 73 = .ok (.ireturn, 1) := dk_172 (dk_at dksX7_told_2 17 rfl rfl)
theorem dX7_told_74 : decode cX7_told 74 = .ok (.aload_n 0, 1) := dk_42 (dk_at dksX7_told_2 18 rfl rfl)
theorem dX7_told_75 : decode cX7_told 75 = .ok (.getfield 13, 3) := dk_180 0 13 (dk_at dksX7_told_2 19 rfl rfl)
theorem dX7_told_78 : decode cX7_told 78 = .ok (.iload_n 1, 1) := dk_27 (dk_at dksX7_told_2 22 rfl rfl)
theorem dX7_told_79 : decode cX7_told 79 = .ok (.iaload, 1) := dk_46 (dk_at dksX7_told_2 23 rfl rfl)
theorem dX7_told_80 : decode cX7_told 80 = .ok (.ireturn, 1) := dk_172 (dk_at dksX7_told_3 0 rfl rfl)
theorem dX7_told_81 : decode cX7_told 81 = .ok (.aload_n 0, 1) := dk_42 (dk_at dksX7_told_3 1 rfl rfl)
theorem dX7_told_82 : decode cX7_told 82 = .ok (.getfield 16, 3) := dk_180 0 16 (dk_at dksX7_told_3 2 rfl rfl)
theorem dX7_told_85 : decode cX7_told 85 = .ok (.iconst 3, 1) := dk_6 (dk_at dksX7_told_3 5 rfl rfl)
theorem dX7_told_86 : decode cX7_told 86 = .ok (.iload_n 1, 1) := dk_27 (dk_at dksX7_told_3 6 rfl rfl)
theorem dX7_told_87 : decode cX7_told 87 = .ok (.imul, 1) := dk_104 (dk_at dksX7_told_3 7 rfl rfl)
theorem dX7_told_88 : decode cX7_told 88 = .ok (.iconst 1, 1) := dk_4 (dk_at dksX7_told_3 8 rfl rfl)
theorem dX7_told_89 : decode cX7_told 89 = .ok (.iadd, 1) := dk_96 (dk_at dksX7_told_3 9 rfl rfl)
theorem dX7_told_90 : decode cX7_told 90 = .ok (.iaload, 1) := dk_46 (dk_at dksX7_told_3 10 rfl rfl)
theorem dX7_told_91 : decode cX7_told 91 = .ok (.aload_n 0, 1) := dk_42 (dk_at dksX7_told_3 11 rfl rfl)
theorem dX7_told_92 : decode cX7_told 92 = .ok (.getfield 16, 3) := dk_180 0 16 (dk_at dksX7_told_3 12 rfl rfl)
theorem dX7_told_95 : decode cX7_told 95 = .ok (.iconst 3, 1) := dk_6 (dk_at dksX7_told_3 15 rfl rfl)
theorem dX7_told_96 : decode cX7_told 96 = .ok (.iload_n 1, 1) := dk_27 (dk_at dksX7_told_3 16 rfl rfl)
theorem dX7_told_97 : decode cX7_told 97 = .ok (.imul, 1) := dk_104 (dk_at dksX7_told_3 17 rfl rfl)
theorem dX7_told_98 : decode cX7_told 98 = .ok (.iaload, 1) := dk_46 (dk_at dksX7_told_3 18 rfl rfl)
theorem dX7_told_99 : decode cX7_told 99 = .ok (.iconst (-1), 1) := dk_2 (dk_at dksX7_told_3 19 rfl rfl)
theorem dX7_told_100 : decode cX7_told 100 = .ok (.ixor, 1) := dk_130 (dk_at dksX7_told_3 20 rfl rfl)
theorem dX7_told_101 : decode cX7_told 101 = .ok (.iand, 1) := dk_126 (dk_at dksX7_told_3 21 rfl rfl)
theorem dX7_told_102 : decode cX7_told 102 = .ok (.ireturn, 1) := dk_172 (dk_at dksX7_told_3 22 rfl rfl)
theorem dX7_told_103 : decode cX7_told 103 = .ok (.aload_n 0, 1) := dk_42 (dk_at dksX7_told_3 23 rfl rfl)
theorem dX7_told_104 : decode cX7_told 104 = .ok (.iload_n 1, 1) := dk_27 (dk_at dksX7_told_4 0 rfl rfl)
theorem dX7_told_105 : decode cX7_told 105 = .ok (.invokevirtual 174, 3) := dk_182 0 174 (dk_at dksX7_told_4 1 rfl rfl)
theorem dX7_told_108 : decode cX7_told 108 = .ok (.ireturn, 1) := dk_172 (dk_at dksX7_told_4 4 rfl rfl)
theorem dX7_told_109 : decode cX7_told 109 = .ok (.bipush (-7), 2) := dk_16 249 (dk_at dksX7_told_4 5 rfl rfl)
theorem dX7_told_111 : decode cX7_told 111 = .ok (.ireturn, 1) := dk_172 (dk_at dksX7_told_4 7 rfl rfl)
abbrev cX7_takesOf : ByteArray := prog_19_method_33_code
def yX7_takesOf : MethodName := ⟨RX7, "takesOf", "(I)I"⟩
def dkwX7_takesOf_3 : List UInt8 := [5, 28, 42, 180, 0, 13, 27, 46, 96, 104, 172, 4, 172, 28, 172]
abbrev dktX7_takesOf_3 : List UInt8 := dkwX7_takesOf_3 ++ []
def dkwX7_takesOf_2 : List UInt8 := [28, 42, 180, 0, 13, 27, 46, 96, 172, 42, 180, 0, 83, 6, 112, 154, 0, 7, 28, 167, 0, 4, 3, 172]
abbrev dktX7_takesOf_2 : List UInt8 := dkwX7_takesOf_2 ++ dktX7_takesOf_3
def dkwX7_takesOf_1 : List UInt8 := [170, 0, 0, 0, 0, 67, 0, 0, 0, 2, 0, 0, 0, 5, 0, 0, 0, 30, 0, 0, 0, 39, 0, 0, 0, 54, 0, 0, 0, 65]
abbrev dktX7_takesOf_1 : List UInt8 := dkwX7_takesOf_1 ++ dktX7_takesOf_2
def dkwX7_takesOf_0 : List UInt8 := [42, 5, 27, 3, 182, 0, 168, 61, 42, 180, 0, 7, 27, 46]
abbrev dktX7_takesOf_0 : List UInt8 := dkwX7_takesOf_0 ++ dktX7_takesOf_1
theorem dksX7_takesOf_0 : cX7_takesOf.data.toList.drop 0 = dktX7_takesOf_0 := by decide +kernel
theorem dksX7_takesOf_1 : cX7_takesOf.data.toList.drop 14 = dktX7_takesOf_1 := dk_seg dksX7_takesOf_0 14 rfl rfl
theorem dksX7_takesOf_2 : cX7_takesOf.data.toList.drop 44 = dktX7_takesOf_2 := dk_seg dksX7_takesOf_1 30 rfl rfl
theorem dksX7_takesOf_3 : cX7_takesOf.data.toList.drop 68 = dktX7_takesOf_3 := dk_seg dksX7_takesOf_2 24 rfl rfl
theorem dX7_takesOf_0 : decode cX7_takesOf 0 = .ok (.aload_n 0, 1) := dk_42 (dk_at dksX7_takesOf_0 0 rfl rfl)
theorem dX7_takesOf_1 : decode cX7_takesOf 1 = .ok (.iconst 2, 1) := dk_5 (dk_at dksX7_takesOf_0 1 rfl rfl)
theorem dX7_takesOf_2 : decode cX7_takesOf 2 = .ok (.iload_n 1, 1) := dk_27 (dk_at dksX7_takesOf_0 2 rfl rfl)
theorem dX7_takesOf_3 : decode cX7_takesOf 3 = .ok (.iconst 0, 1) := dk_3 (dk_at dksX7_takesOf_0 3 rfl rfl)
theorem dX7_takesOf_4 : decode cX7_takesOf 4 = .ok (.invokevirtual 168, 3) := dk_182 0 168 (dk_at dksX7_takesOf_0 4 rfl rfl)
theorem dX7_takesOf_7 : decode cX7_takesOf 7 = .ok (.istore_n 2, 1) := dk_61 (dk_at dksX7_takesOf_0 7 rfl rfl)
theorem dX7_takesOf_8 : decode cX7_takesOf 8 = .ok (.aload_n 0, 1) := dk_42 (dk_at dksX7_takesOf_0 8 rfl rfl)
theorem dX7_takesOf_9 : decode cX7_takesOf 9 = .ok (.getfield 7, 3) := dk_180 0 7 (dk_at dksX7_takesOf_0 9 rfl rfl)
theorem dX7_takesOf_12 : decode cX7_takesOf 12 = .ok (.iload_n 1, 1) := dk_27 (dk_at dksX7_takesOf_0 12 rfl rfl)
theorem dX7_takesOf_13 : decode cX7_takesOf 13 = .ok (.iaload, 1) := dk_46 (dk_at dksX7_takesOf_0 13 rfl rfl)
theorem dX7_takesOf_14 : decode cX7_takesOf 14 = .ok (.tableswitch 67 2 5 #[30, 39, 54, 65], 30) := by decide +kernel
theorem dX7_takesOf_44 : decode cX7_takesOf 44 = .ok (.iload_n 2, 1) := dk_28 (dk_at dksX7_takesOf_2 0 rfl rfl)
theorem dX7_takesOf_45 : decode cX7_takesOf 45 = .ok (.aload_n 0, 1) := dk_42 (dk_at dksX7_takesOf_2 1 rfl rfl)
theorem dX7_takesOf_46 : decode cX7_takesOf 46 = .ok (.getfield 13, 3) := dk_180 0 13 (dk_at dksX7_takesOf_2 2 rfl rfl)
theorem dX7_takesOf_49 : decode cX7_takesOf 49 = .ok (.iload_n 1, 1) := dk_27 (dk_at dksX7_takesOf_2 5 rfl rfl)
theorem dX7_takesOf_50 : decode cX7_takesOf 50 = .ok (.iaload, 1) := dk_46 (dk_at dksX7_takesOf_2 6 rfl rfl)
theorem dX7_takesOf_51 : decode cX7_takesOf 51 = .ok (.iadd, 1) := dk_96 (dk_at dksX7_takesOf_2 7 rfl rfl)
theorem dX7_takesOf_52 : decode cX7_takesOf 52 = .ok (.ireturn, 1) := dk_172 (dk_at dksX7_takesOf_2 8 rfl rfl)
theorem dX7_takesOf_53 : decode cX7_takesOf 53 = .ok (.aload_n 0, 1) := dk_42 (dk_at dksX7_takesOf_2 9 rfl rfl)
theorem dX7_takesOf_54 : decode cX7_takesOf 54 = .ok (.getfield 83, 3) := dk_180 0 83 (dk_at dksX7_takesOf_2 10 rfl rfl)
theorem dX7_takesOf_57 : decode cX7_takesOf 57 = .ok (.iconst 3, 1) := dk_6 (dk_at dksX7_takesOf_2 13 rfl rfl)
theorem dX7_takesOf_58 : decode cX7_takesOf 58 = .ok (.irem, 1) := dk_112 (dk_at dksX7_takesOf_2 14 rfl rfl)
theorem dX7_takesOf_59 : decode cX7_takesOf 59 = .ok (.ifCond .ne 7, 3) := dk_154 0 7 (dk_at dksX7_takesOf_2 15 rfl rfl)
theorem dX7_takesOf_62 : decode cX7_takesOf 62 = .ok (.iload_n 2, 1) := dk_28 (dk_at dksX7_takesOf_2 18 rfl rfl)
theorem dX7_takesOf_63 : decode cX7_takesOf 63 = .ok (.goto 4, 3) := dk_167 0 4 (dk_at dksX7_takesOf_2 19 rfl rfl)
theorem dX7_takesOf_66 : decode cX7_takesOf 66 = .ok (.iconst 0, 1) := dk_3 (dk_at dksX7_takesOf_2 22 rfl rfl)
theorem dX7_takesOf_67 : decode cX7_takesOf 67 = .ok (.ireturn, 1) := dk_172 (dk_at dksX7_takesOf_2 23 rfl rfl)
theorem dX7_takesOf_68 : decode cX7_takesOf 68 = .ok (.iconst 2, 1) := dk_5 (dk_at dksX7_takesOf_3 0 rfl rfl)
theorem dX7_takesOf_69 : decode cX7_takesOf 69 = .ok (.iload_n 2, 1) := dk_28 (dk_at dksX7_takesOf_3 1 rfl rfl)
theorem dX7_takesOf_70 : decode cX7_takesOf 70 = .ok (.aload_n 0, 1) := dk_42 (dk_at dksX7_takesOf_3 2 rfl rfl)
theorem dX7_takesOf_71 : decode cX7_takesOf 71 = .ok (.getfield 13, 3) := dk_180 0 13 (dk_at dksX7_takesOf_3 3 rfl rfl)
theorem dX7_takesOf_74 : decode cX7_takesOf 74 = .ok (.iload_n 1, 1) := dk_27 (dk_at dksX7_takesOf_3 6 rfl rfl)
theorem dX7_takesOf_75 : decode cX7_takesOf 75 = .ok (.iaload, 1) := dk_46 (dk_at dksX7_takesOf_3 7 rfl rfl)
theorem dX7_takesOf_76 : decode cX7_takesOf 76 = .ok (.iadd, 1) := dk_96 (dk_at dksX7_takesOf_3 8 rfl rfl)
theorem dX7_takesOf_77 : decode cX7_takesOf 77 = .ok (.imul, 1) := dk_104 (dk_at dksX7_takesOf_3 9 rfl rfl)
theorem dX7_takesOf_78 : decode cX7_takesOf 78 = .ok (.ireturn, 1) := dk_172 (dk_at dksX7_takesOf_3 10 rfl rfl)
theorem dX7_takesOf_79 : decode cX7_takesOf 79 = .ok (.iconst 1, 1) := dk_4 (dk_at dksX7_takesOf_3 11 rfl rfl)
theorem dX7_takesOf_80 : decode cX7_takesOf 80 = .ok (.ireturn, 1) := dk_172 (dk_at dksX7_takesOf_3 12 rfl rfl)
theorem dX7_takesOf_81 : decode cX7_takesOf 81 = .ok (.iload_n 2, 1) := dk_28 (dk_at dksX7_takesOf_3 13 rfl rfl)
theorem dX7_takesOf_82 : decode cX7_takesOf 82 = .ok (.ireturn, 1) := dk_172 (dk_at dksX7_takesOf_3 14 rfl rfl)
abbrev cX7_lands : ByteArray := prog_19_method_35_code
def yX7_lands : MethodName := ⟨RX7, "lands", "(III)I"⟩
def dkwX7_lands_2 : List UInt8 := [27, 28, 182, 0, 180, 172]
abbrev dktX7_lands_2 : List UInt8 := dkwX7_lands_2 ++ []
def dkwX7_lands_1 : List UInt8 := [184, 0, 72, 154, 0, 7, 17, 228, 168, 172, 29, 154, 0, 12, 42, 27, 28, 182, 0, 177, 167, 0, 9, 42]
abbrev dktX7_lands_1 : List UInt8 := dkwX7_lands_1 ++ dktX7_lands_2
def dkwX7_lands_0 : List UInt8 := [42, 27, 182, 0, 162, 153, 0, 10, 28, 184, 0, 165, 154, 0, 7, 17, 236, 120, 172, 29, 3, 4]
abbrev dktX7_lands_0 : List UInt8 := dkwX7_lands_0 ++ dktX7_lands_1
theorem dksX7_lands_0 : cX7_lands.data.toList.drop 0 = dktX7_lands_0 := by decide +kernel
theorem dksX7_lands_1 : cX7_lands.data.toList.drop 22 = dktX7_lands_1 := dk_seg dksX7_lands_0 22 rfl rfl
theorem dksX7_lands_2 : cX7_lands.data.toList.drop 46 = dktX7_lands_2 := dk_seg dksX7_lands_1 24 rfl rfl
theorem dX7_lands_0 : decode cX7_lands 0 = .ok (.aload_n 0, 1) := dk_42 (dk_at dksX7_lands_0 0 rfl rfl)
theorem dX7_lands_1 : decode cX7_lands 1 = .ok (.iload_n 1, 1) := dk_27 (dk_at dksX7_lands_0 1 rfl rfl)
theorem dX7_lands_2 : decode cX7_lands 2 = .ok (.invokevirtual 162, 3) := dk_182 0 162 (dk_at dksX7_lands_0 2 rfl rfl)
theorem dX7_lands_5 : decode cX7_lands 5 = .ok (.ifCond .eq 10, 3) := dk_153 0 10 (dk_at dksX7_lands_0 5 rfl rfl)
theorem dX7_lands_8 : decode cX7_lands 8 = .ok (.iload_n 2, 1) := dk_28 (dk_at dksX7_lands_0 8 rfl rfl)
theorem dX7_lands_9 : decode cX7_lands 9 = .ok (.invokestatic 165, 3) := dk_184 0 165 (dk_at dksX7_lands_0 9 rfl rfl)
theorem dX7_lands_12 : decode cX7_lands 12 = .ok (.ifCond .ne 7, 3) := dk_154 0 7 (dk_at dksX7_lands_0 12 rfl rfl)
theorem dX7_lands_15 : decode cX7_lands 15 = .ok (.sipush (-5000), 3) := dk_17 236 120 (dk_at dksX7_lands_0 15 rfl rfl)
theorem dX7_lands_18 : decode cX7_lands 18 = .ok (.ireturn, 1) := dk_172 (dk_at dksX7_lands_0 18 rfl rfl)
theorem dX7_lands_19 : decode cX7_lands 19 = .ok (.iload_n 3, 1) := dk_29 (dk_at dksX7_lands_0 19 rfl rfl)
theorem dX7_lands_20 : decode cX7_lands 20 = .ok (.iconst 0, 1) := dk_3 (dk_at dksX7_lands_0 20 rfl rfl)
theorem dX7_lands_21 : decode cX7_lands 21 = .ok (.iconst 1, 1) := dk_4 (dk_at dksX7_lands_0 21 rfl rfl)
theorem dX7_lands_22 : decode cX7_lands 22 = .ok (.invokestatic 72, 3) := dk_184 0 72 (dk_at dksX7_lands_1 0 rfl rfl)
theorem dX7_lands_25 : decode cX7_lands 25 = .ok (.ifCond .ne 7, 3) := dk_154 0 7 (dk_at dksX7_lands_1 3 rfl rfl)
theorem dX7_lands_28 : decode cX7_lands 28 = .ok (.sipush (-7000), 3) := dk_17 228 168 (dk_at dksX7_lands_1 6 rfl rfl)
theorem dX7_lands_31 : decode cX7_lands 31 = .ok (.ireturn, 1) := dk_172 (dk_at dksX7_lands_1 9 rfl rfl)
theorem dX7_lands_32 : decode cX7_lands 32 = .ok (.iload_n 3, 1) := dk_29 (dk_at dksX7_lands_1 10 rfl rfl)
theorem dX7_lands_33 : decode cX7_lands 33 = .ok (.ifCond .ne 12, 3) := dk_154 0 12 (dk_at dksX7_lands_1 11 rfl rfl)
theorem dX7_lands_36 : decode cX7_lands 36 = .ok (.aload_n 0, 1) := dk_42 (dk_at dksX7_lands_1 14 rfl rfl)
theorem dX7_lands_37 : decode cX7_lands 37 = .ok (.iload_n 1, 1) := dk_27 (dk_at dksX7_lands_1 15 rfl rfl)
theorem dX7_lands_38 : decode cX7_lands 38 = .ok (.iload_n 2, 1) := dk_28 (dk_at dksX7_lands_1 16 rfl rfl)
theorem dX7_lands_39 : decode cX7_lands 39 = .ok (.invokevirtual 177, 3) := dk_182 0 177 (dk_at dksX7_lands_1 17 rfl rfl)
theorem dX7_lands_42 : decode cX7_lands 42 = .ok (.goto 9, 3) := dk_167 0 9 (dk_at dksX7_lands_1 20 rfl rfl)
theorem dX7_lands_45 : decode cX7_lands 45 = .ok (.aload_n 0, 1) := dk_42 (dk_at dksX7_lands_1 23 rfl rfl)
theorem dX7_lands_46 : decode cX7_lands 46 = .ok (.iload_n 1, 1) := dk_27 (dk_at dksX7_lands_2 0 rfl rfl)
theorem dX7_lands_47 : decode cX7_lands 47 = .ok (.iload_n 2, 1) := dk_28 (dk_at dksX7_lands_2 1 rfl rfl)
theorem dX7_lands_48 : decode cX7_lands 48 = .ok (.invokevirtual 180, 3) := dk_182 0 180 (dk_at dksX7_lands_2 2 rfl rfl)
theorem dX7_lands_51 : decode cX7_lands 51 = .ok (.ireturn, 1) := dk_172 (dk_at dksX7_lands_2 5 rfl rfl)
abbrev cX7_letsOf : ByteArray := prog_19_method_31_code
def yX7_letsOf : MethodName := ⟨RX7, "letsOf", "(II)I"⟩
def dkwX7_letsOf_6 : List UInt8 := [180, 0, 16, 6, 27, 104, 46, 21, 7, 184, 0, 171, 172]
abbrev dktX7_letsOf_6 : List UInt8 := dkwX7_letsOf_6 ++ []
def dkwX7_letsOf_5 : List UInt8 := [54, 7, 167, 0, 20, 42, 180, 0, 13, 27, 46, 29, 112, 54, 7, 167, 0, 7, 21, 5, 54, 7, 42]
abbrev dktX7_letsOf_5 : List UInt8 := dkwX7_letsOf_5 ++ dktX7_letsOf_6
def dkwX7_letsOf_4 : List UInt8 := [21, 6, 54, 7, 167, 0, 42, 29, 4, 164, 0, 13, 21, 6, 4, 162, 0, 7, 4, 167, 0, 5, 21, 6]
abbrev dktX7_letsOf_4 : List UInt8 := dkwX7_letsOf_4 ++ dktX7_letsOf_5
def dkwX7_letsOf_3 : List UInt8 := [170, 0, 0, 0, 75, 0, 0, 0, 1, 0, 0, 0, 5, 0, 0, 0, 33, 0, 0, 0, 75, 0, 0, 0, 40, 0, 0, 0, 75, 0, 0, 0, 62]
abbrev dktX7_letsOf_3 : List UInt8 := dkwX7_letsOf_3 ++ dktX7_letsOf_4
def dkwX7_letsOf_2 : List UInt8 := [112, 54, 5, 29, 4, 100, 21, 5, 100, 54, 6, 21, 5, 54, 7, 42, 180, 0, 7, 27, 46]
abbrev dktX7_letsOf_2 : List UInt8 := dkwX7_letsOf_2 ++ dktX7_letsOf_3
def dkwX7_letsOf_1 : List UInt8 := [182, 0, 168, 54, 4, 21, 4, 29, 112, 156, 0, 12, 21, 4, 29, 112, 29, 96, 167, 0, 7, 21, 4, 29]
abbrev dktX7_letsOf_1 : List UInt8 := dkwX7_letsOf_1 ++ dktX7_letsOf_2
def dkwX7_letsOf_0 : List UInt8 := [42, 180, 0, 16, 6, 27, 104, 46, 184, 0, 79, 62, 29, 154, 0, 5, 2, 172, 42, 3, 27, 28]
abbrev dktX7_letsOf_0 : List UInt8 := dkwX7_letsOf_0 ++ dktX7_letsOf_1
theorem dksX7_letsOf_0 : cX7_letsOf.data.toList.drop 0 = dktX7_letsOf_0 := by decide +kernel
theorem dksX7_letsOf_1 : cX7_letsOf.data.toList.drop 22 = dktX7_letsOf_1 := dk_seg dksX7_letsOf_0 22 rfl rfl
theorem dksX7_letsOf_2 : cX7_letsOf.data.toList.drop 46 = dktX7_letsOf_2 := dk_seg dksX7_letsOf_1 24 rfl rfl
theorem dksX7_letsOf_3 : cX7_letsOf.data.toList.drop 67 = dktX7_letsOf_3 := dk_seg dksX7_letsOf_2 21 rfl rfl
theorem dksX7_letsOf_4 : cX7_letsOf.data.toList.drop 100 = dktX7_letsOf_4 := dk_seg dksX7_letsOf_3 33 rfl rfl
theorem dksX7_letsOf_5 : cX7_letsOf.data.toList.drop 124 = dktX7_letsOf_5 := dk_seg dksX7_letsOf_4 24 rfl rfl
theorem dksX7_letsOf_6 : cX7_letsOf.data.toList.drop 147 = dktX7_letsOf_6 := dk_seg dksX7_letsOf_5 23 rfl rfl
theorem dX7_letsOf_0 : decode cX7_letsOf 0 = .ok (.aload_n 0, 1) := dk_42 (dk_at dksX7_letsOf_0 0 rfl rfl)
theorem dX7_letsOf_1 : decode cX7_letsOf 1 = .ok (.getfield 16, 3) := dk_180 0 16 (dk_at dksX7_letsOf_0 1 rfl rfl)
theorem dX7_letsOf_4 : decode cX7_letsOf 4 = .ok (.iconst 3, 1) := dk_6 (dk_at dksX7_letsOf_0 4 rfl rfl)
theorem dX7_letsOf_5 : decode cX7_letsOf 5 = .ok (.iload_n 1, 1) := dk_27 (dk_at dksX7_letsOf_0 5 rfl rfl)
theorem dX7_letsOf_6 : decode cX7_letsOf 6 = .ok (.imul, 1) := dk_104 (dk_at dksX7_letsOf_0 6 rfl rfl)
theorem dX7_letsOf_7 : decode cX7_letsOf 7 = .ok (.iaload, 1) := dk_46 (dk_at dksX7_letsOf_0 7 rfl rfl)
theorem dX7_letsOf_8 : decode cX7_letsOf 8 = .ok (.invokestatic 79, 3) := dk_184 0 79 (dk_at dksX7_letsOf_0 8 rfl rfl)
theorem dX7_letsOf_11 : decode cX7_letsOf 11 = .ok (.istore_n 3, 1) := dk_62 (dk_at dksX7_letsOf_0 11 rfl rfl)
theorem dX7_letsOf_12 : decode cX7_letsOf 12 = .ok (.iload_n 3, 1) := dk_29 (dk_at dksX7_letsOf_0 12 rfl rfl)
theorem dX7_letsOf_13 : decode cX7_letsOf 13 = .ok (.ifCond .ne 5, 3) := dk_154 0 5 (dk_at dksX7_letsOf_0 13 rfl rfl)
theorem dX7_letsOf_16 : decode cX7_letsOf 16 = .ok (.iconst (-1), 1) := dk_2 (dk_at dksX7_letsOf_0 16 rfl rfl)
theorem dX7_letsOf_17 : decode cX7_letsOf 17 = .ok (.ireturn, 1) := dk_172 (dk_at dksX7_letsOf_0 17 rfl rfl)
theorem dX7_letsOf_18 : decode cX7_letsOf 18 = .ok (.aload_n 0, 1) := dk_42 (dk_at dksX7_letsOf_0 18 rfl rfl)
theorem dX7_letsOf_19 : decode cX7_letsOf 19 = .ok (.iconst 0, 1) := dk_3 (dk_at dksX7_letsOf_0 19 rfl rfl)
theorem dX7_letsOf_20 : decode cX7_letsOf 20 = .ok (.iload_n 1, 1) := dk_27 (dk_at dksX7_letsOf_0 20 rfl rfl)
theorem dX7_letsOf_21 : decode cX7_letsOf 21 = .ok (.iload_n 2, 1) := dk_28 (dk_at dksX7_letsOf_0 21 rfl rfl)
theorem dX7_letsOf_22 : decode cX7_letsOf 22 = .ok (.invokevirtual 168, 3) := dk_182 0 168 (dk_at dksX7_letsOf_1 0 rfl rfl)
theorem dX7_letsOf_25 : decode cX7_letsOf 25 = .ok (.istore 4, 2) := dk_54 4 (dk_at dksX7_letsOf_1 3 rfl rfl)
theorem dX7_letsOf_27 : decode cX7_letsOf 27 = .ok (.iload 4, 2) := dk_21 4 (dk_at dksX7_letsOf_1 5 rfl rfl)
theorem dX7_letsOf_29 : decode cX7_letsOf 29 = .ok (.iload_n 3, 1) := dk_29 (dk_at dksX7_letsOf_1 7 rfl rfl)
theorem dX7_letsOf_30 : decode cX7_letsOf 30 = .ok (.irem, 1) := dk_112 (dk_at dksX7_letsOf_1 8 rfl rfl)
theorem dX7_letsOf_31 : decode cX7_letsOf 31 = .ok (.ifCond .ge 12, 3) := dk_156 0 12 (dk_at dksX7_letsOf_1 9 rfl rfl)
theorem dX7_letsOf_34 : decode cX7_letsOf 34 = .ok (.iload 4, 2) := dk_21 4 (dk_at dksX7_letsOf_1 12 rfl rfl)
theorem dX7_letsOf_36 : decode cX7_letsOf 36 = .ok (.iload_n 3, 1) := dk_29 (dk_at dksX7_letsOf_1 14 rfl rfl)
theorem dX7_letsOf_37 : decode cX7_letsOf 37 = .ok (.irem, 1) := dk_112 (dk_at dksX7_letsOf_1 15 rfl rfl)
theorem dX7_letsOf_38 : decode cX7_letsOf 38 = .ok (.iload_n 3, 1) := dk_29 (dk_at dksX7_letsOf_1 16 rfl rfl)
theorem dX7_letsOf_39 : decode cX7_letsOf 39 = .ok (.iadd, 1) := dk_96 (dk_at dksX7_letsOf_1 17 rfl rfl)
theorem dX7_letsOf_40 : decode cX7_letsOf 40 = .ok (.goto 7, 3) := dk_167 0 7 (dk_at dksX7_letsOf_1 18 rfl rfl)
theorem dX7_letsOf_43 : decode cX7_letsOf 43 = .ok (.iload 4, 2) := dk_21 4 (dk_at dksX7_letsOf_1 21 rfl rfl)
theorem dX7_letsOf_45 : decode cX7_letsOf 45 = .ok (.iload_n 3, 1) := dk_29 (dk_at dksX7_letsOf_1 23 rfl rfl)
theorem dX7_letsOf_46 : decode cX7_letsOf 46 = .ok (.irem, 1) := dk_112 (dk_at dksX7_letsOf_2 0 rfl rfl)
theorem dX7_letsOf_47 : decode cX7_letsOf 47 = .ok (.istore 5, 2) := dk_54 5 (dk_at dksX7_letsOf_2 1 rfl rfl)
theorem dX7_letsOf_49 : decode cX7_letsOf 49 = .ok (.iload_n 3, 1) := dk_29 (dk_at dksX7_letsOf_2 3 rfl rfl)
theorem dX7_letsOf_50 : decode cX7_letsOf 50 = .ok (.iconst 1, 1) := dk_4 (dk_at dksX7_letsOf_2 4 rfl rfl)
theorem dX7_letsOf_51 : decode cX7_letsOf 51 = .ok (.isub, 1) := dk_100 (dk_at dksX7_letsOf_2 5 rfl rfl)
theorem dX7_letsOf_52 : decode cX7_letsOf 52 = .ok (.iload 5, 2) := dk_21 5 (dk_at dksX7_letsOf_2 6 rfl rfl)
theorem dX7_letsOf_54 : decode cX7_letsOf 54 = .ok (.isub, 1) := dk_100 (dk_at dksX7_letsOf_2 8 rfl rfl)
theorem dX7_letsOf_55 : decode cX7_letsOf 55 = .ok (.istore 6, 2) := dk_54 6 (dk_at dksX7_letsOf_2 9 rfl rfl)
theorem dX7_letsOf_57 : decode cX7_letsOf 57 = .ok (.iload 5, 2) := dk_21 5 (dk_at dksX7_letsOf_2 11 rfl rfl)
theorem dX7_letsOf_59 : decode cX7_letsOf 59 = .ok (.istore 7, 2) := dk_54 7 (dk_at dksX7_letsOf_2 13 rfl rfl)
theorem dX7_letsOf_61 : decode cX7_letsOf 61 = .ok (.aload_n 0, 1) := dk_42 (dk_at dksX7_letsOf_2 15 rfl rfl)
theorem dX7_letsOf_62 : decode cX7_letsOf 62 = .ok (.getfield 7, 3) := dk_180 0 7 (dk_at dksX7_letsOf_2 16 rfl rfl)
theorem dX7_letsOf_65 : decode cX7_letsOf 65 = .ok (.iload_n 1, 1) := dk_27 (dk_at dksX7_letsOf_2 19 rfl rfl)
theorem dX7_letsOf_66 : decode cX7_letsOf 66 = .ok (.iaload, 1) := dk_46 (dk_at dksX7_letsOf_2 20 rfl rfl)
theorem dX7_letsOf_67 : decode cX7_letsOf 67 = .ok (.tableswitch 75 1 5 #[33, 75, 40, 75, 62], 33) := by decide +kernel
theorem dX7_letsOf_100 : decode cX7_letsOf 100 = .ok (.iload 6, 2) := dk_21 6 (dk_at dksX7_letsOf_4 0 rfl rfl)
theorem dX7_letsOf_102 : decode cX7_letsOf 102 = .ok (.istore 7, 2) := dk_54 7 (dk_at dksX7_letsOf_4 2 rfl rfl)
theorem dX7_letsOf_104 : decode cX7_letsOf 104 = .ok (.goto 42, 3) := dk_167 0 42 (dk_at dksX7_letsOf_4 4 rfl rfl)
theorem dX7_letsOf_107 : decode cX7_letsOf 107 = .ok (.iload_n 3, 1) := dk_29 (dk_at dksX7_letsOf_4 7 rfl rfl)
theorem dX7_letsOf_108 : decode cX7_letsOf 108 = .ok (.iconst 1, 1) := dk_4 (dk_at dksX7_letsOf_4 8 rfl rfl)
theorem dX7_letsOf_109 : decode cX7_letsOf 109 = .ok (.if_icmp .le 13, 3) := dk_164 0 13 (dk_at dksX7_letsOf_4 9 rfl rfl)
theorem dX7_letsOf_112 : decode cX7_letsOf 112 = .ok (.iload 6, 2) := dk_21 6 (dk_at dksX7_letsOf_4 12 rfl rfl)
theorem dX7_letsOf_114 : decode cX7_letsOf 114 = .ok (.iconst 1, 1) := dk_4 (dk_at dksX7_letsOf_4 14 rfl rfl)
theorem dX7_letsOf_115 : decode cX7_letsOf 115 = .ok (.if_icmp .ge 7, 3) := dk_162 0 7 (dk_at dksX7_letsOf_4 15 rfl rfl)
theorem dX7_letsOf_118 : decode cX7_letsOf 118 = .ok (.iconst 1, 1) := dk_4 (dk_at dksX7_letsOf_4 18 rfl rfl)
theorem dX7_letsOf_119 : decode cX7_letsOf 119 = .ok (.goto 5, 3) := dk_167 0 5 (dk_at dksX7_letsOf_4 19 rfl rfl)
theorem dX7_letsOf_122 : decode cX7_letsOf 122 = .ok (.iload 6, 2) := dk_21 6 (dk_at dksX7_letsOf_4 22 rfl rfl)
theorem dX7_letsOf_124 : decode cX7_letsOf 124 = .ok (.istore 7, 2) := dk_54 7 (dk_at dksX7_letsOf_5 0 rfl rfl)
theorem dX7_letsOf_126 : decode cX7_letsOf 126 = .ok (.goto 20, 3) := dk_167 0 20 (dk_at dksX7_letsOf_5 2 rfl rfl)
theorem dX7_letsOf_129 : decode cX7_letsOf 129 = .ok (.aload_n 0, 1) := dk_42 (dk_at dksX7_letsOf_5 5 rfl rfl)
theorem dX7_letsOf_130 : decode cX7_letsOf 130 = .ok (.getfield 13, 3) := dk_180 0 13 (dk_at dksX7_letsOf_5 6 rfl rfl)
theorem dX7_letsOf_133 : decode cX7_letsOf 133 = .ok (.iload_n 1, 1) := dk_27 (dk_at dksX7_letsOf_5 9 rfl rfl)
theorem dX7_letsOf_134 : decode cX7_letsOf 134 = .ok (.iaload, 1) := dk_46 (dk_at dksX7_letsOf_5 10 rfl rfl)
theorem dX7_letsOf_135 : decode cX7_letsOf 135 = .ok (.iload_n 3, 1) := dk_29 (dk_at dksX7_letsOf_5 11 rfl rfl)
theorem dX7_letsOf_136 : decode cX7_letsOf 136 = .ok (.irem, 1) := dk_112 (dk_at dksX7_letsOf_5 12 rfl rfl)
theorem dX7_letsOf_137 : decode cX7_letsOf 137 = .ok (.istore 7, 2) := dk_54 7 (dk_at dksX7_letsOf_5 13 rfl rfl)
theorem dX7_letsOf_139 : decode cX7_letsOf 139 = .ok (.goto 7, 3) := dk_167 0 7 (dk_at dksX7_letsOf_5 15 rfl rfl)
theorem dX7_letsOf_142 : decode cX7_letsOf 142 = .ok (.iload 5, 2) := dk_21 5 (dk_at dksX7_letsOf_5 18 rfl rfl)
theorem dX7_letsOf_144 : decode cX7_letsOf 144 = .ok (.istore 7, 2) := dk_54 7 (dk_at dksX7_letsOf_5 20 rfl rfl)
theorem dX7_letsOf_146 : decode cX7_letsOf 146 = .ok (.aload_n 0, 1) := dk_42 (dk_at dksX7_letsOf_5 22 rfl rfl)
theorem dX7_letsOf_147 : decode cX7_letsOf 147 = .ok (.getfield 16, 3) := dk_180 0 16 (dk_at dksX7_letsOf_6 0 rfl rfl)
theorem dX7_letsOf_150 : decode cX7_letsOf 150 = .ok (.iconst 3, 1) := dk_6 (dk_at dksX7_letsOf_6 3 rfl rfl)
theorem dX7_letsOf_151 : decode cX7_letsOf 151 = .ok (.iload_n 1, 1) := dk_27 (dk_at dksX7_letsOf_6 4 rfl rfl)
theorem dX7_letsOf_152 : decode cX7_letsOf 152 = .ok (.imul, 1) := dk_104 (dk_at dksX7_letsOf_6 5 rfl rfl)
theorem dX7_letsOf_153 : decode cX7_letsOf 153 = .ok (.iaload, 1) := dk_46 (dk_at dksX7_letsOf_6 6 rfl rfl)
theorem dX7_letsOf_154 : decode cX7_letsOf 154 = .ok (.iload 7, 2) := dk_21 7 (dk_at dksX7_letsOf_6 7 rfl rfl)
theorem dX7_letsOf_156 : decode cX7_letsOf 156 = .ok (.invokestatic 171, 3) := dk_184 0 171 (dk_at dksX7_letsOf_6 9 rfl rfl)
theorem dX7_letsOf_159 : decode cX7_letsOf 159 = .ok (.ireturn, 1) := dk_172 (dk_at dksX7_letsOf_6 12 rfl rfl)
abbrev cX7_nthOf : ByteArray := prog_19_method_6_code
def yX7_nthOf : MethodName := ⟨RX7, "nthOf", "(II)I"⟩
def dkwX7_nthOf_1 : List UInt8 := [29, 172, 132, 2, 1, 132, 3, 1, 167, 255, 228, 2, 172]
abbrev dktX7_nthOf_1 : List UInt8 := dkwX7_nthOf_1 ++ []
def dkwX7_nthOf_0 : List UInt8 := [3, 61, 3, 62, 29, 16, 16, 162, 0, 28, 26, 29, 122, 4, 126, 4, 160, 0, 13, 28, 27, 160, 0, 5]
abbrev dktX7_nthOf_0 : List UInt8 := dkwX7_nthOf_0 ++ dktX7_nthOf_1
theorem dksX7_nthOf_0 : cX7_nthOf.data.toList.drop 0 = dktX7_nthOf_0 := by decide +kernel
theorem dksX7_nthOf_1 : cX7_nthOf.data.toList.drop 24 = dktX7_nthOf_1 := dk_seg dksX7_nthOf_0 24 rfl rfl
theorem dX7_nthOf_0 : decode cX7_nthOf 0 = .ok (.iconst 0, 1) := dk_3 (dk_at dksX7_nthOf_0 0 rfl rfl)
theorem dX7_nthOf_1 : decode cX7_nthOf 1 = .ok (.istore_n 2, 1) := dk_61 (dk_at dksX7_nthOf_0 1 rfl rfl)
theorem dX7_nthOf_2 : decode cX7_nthOf 2 = .ok (.iconst 0, 1) := dk_3 (dk_at dksX7_nthOf_0 2 rfl rfl)
theorem dX7_nthOf_3 : decode cX7_nthOf 3 = .ok (.istore_n 3, 1) := dk_62 (dk_at dksX7_nthOf_0 3 rfl rfl)
theorem dX7_nthOf_4 : decode cX7_nthOf 4 = .ok (.iload_n 3, 1) := dk_29 (dk_at dksX7_nthOf_0 4 rfl rfl)
theorem dX7_nthOf_5 : decode cX7_nthOf 5 = .ok (.bipush 16, 2) := dk_16 16 (dk_at dksX7_nthOf_0 5 rfl rfl)
theorem dX7_nthOf_7 : decode cX7_nthOf 7 = .ok (.if_icmp .ge 28, 3) := dk_162 0 28 (dk_at dksX7_nthOf_0 7 rfl rfl)
theorem dX7_nthOf_10 : decode cX7_nthOf 10 = .ok (.iload_n 0, 1) := dk_26 (dk_at dksX7_nthOf_0 10 rfl rfl)
theorem dX7_nthOf_11 : decode cX7_nthOf 11 = .ok (.iload_n 3, 1) := dk_29 (dk_at dksX7_nthOf_0 11 rfl rfl)
theorem dX7_nthOf_12 : decode cX7_nthOf 12 = .ok (.ishr, 1) := dk_122 (dk_at dksX7_nthOf_0 12 rfl rfl)
theorem dX7_nthOf_13 : decode cX7_nthOf 13 = .ok (.iconst 1, 1) := dk_4 (dk_at dksX7_nthOf_0 13 rfl rfl)
theorem dX7_nthOf_14 : decode cX7_nthOf 14 = .ok (.iand, 1) := dk_126 (dk_at dksX7_nthOf_0 14 rfl rfl)
theorem dX7_nthOf_15 : decode cX7_nthOf 15 = .ok (.iconst 1, 1) := dk_4 (dk_at dksX7_nthOf_0 15 rfl rfl)
theorem dX7_nthOf_16 : decode cX7_nthOf 16 = .ok (.if_icmp .ne 13, 3) := dk_160 0 13 (dk_at dksX7_nthOf_0 16 rfl rfl)
theorem dX7_nthOf_19 : decode cX7_nthOf 19 = .ok (.iload_n 2, 1) := dk_28 (dk_at dksX7_nthOf_0 19 rfl rfl)
theorem dX7_nthOf_20 : decode cX7_nthOf 20 = .ok (.iload_n 1, 1) := dk_27 (dk_at dksX7_nthOf_0 20 rfl rfl)
theorem dX7_nthOf_21 : decode cX7_nthOf 21 = .ok (.if_icmp .ne 5, 3) := dk_160 0 5 (dk_at dksX7_nthOf_0 21 rfl rfl)
theorem dX7_nthOf_24 : decode cX7_nthOf 24 = .ok (.iload_n 3, 1) := dk_29 (dk_at dksX7_nthOf_1 0 rfl rfl)
theorem dX7_nthOf_25 : decode cX7_nthOf 25 = .ok (.ireturn, 1) := dk_172 (dk_at dksX7_nthOf_1 1 rfl rfl)
theorem dX7_nthOf_26 : decode cX7_nthOf 26 = .ok (.iinc 2 1, 3) := dk_132 2 1 (dk_at dksX7_nthOf_1 2 rfl rfl)
theorem dX7_nthOf_29 : decode cX7_nthOf 29 = .ok (.iinc 3 1, 3) := dk_132 3 1 (dk_at dksX7_nthOf_1 5 rfl rfl)
theorem dX7_nthOf_32 : decode cX7_nthOf 32 = .ok (.goto (-28), 3) := dk_167 255 228 (dk_at dksX7_nthOf_1 8 rfl rfl)
theorem dX7_nthOf_35 : decode cX7_nthOf 35 = .ok (.iconst (-1), 1) := dk_2 (dk_at dksX7_nthOf_1 11 rfl rfl)
theorem dX7_nthOf_36 : decode cX7_nthOf 36 = .ok (.ireturn, 1) := dk_172 (dk_at dksX7_nthOf_1 12 rfl rfl)
abbrev cX7_lucksOf : ByteArray := prog_19_method_32_code
def yX7_lucksOf : MethodName := ⟨RX7, "lucksOf", "(II)I"⟩
def dkwX7_lucksOf_4 : List UInt8 := [153, 0, 12, 42, 180, 0, 13, 27, 46, 167, 0, 6, 29, 5, 108, 172, 29, 172]
abbrev dktX7_lucksOf_4 : List UInt8 := dkwX7_lucksOf_4 ++ []
def dkwX7_lucksOf_3 : List UInt8 := [21, 4, 153, 0, 7, 29, 167, 0, 11, 29, 42, 180, 0, 13, 27, 46, 100, 172, 29, 5, 108, 172, 21, 4]
abbrev dktX7_lucksOf_3 : List UInt8 := dkwX7_lucksOf_3 ++ dktX7_lucksOf_4
def dkwX7_lucksOf_2 : List UInt8 := [170, 0, 0, 0, 0, 0, 71, 0, 0, 0, 1, 0, 0, 0, 4, 0, 0, 0, 31, 0, 0, 0, 49, 0, 0, 0, 31, 0, 0, 0, 53]
abbrev dktX7_lucksOf_2 : List UInt8 := dkwX7_lucksOf_2 ++ dktX7_lucksOf_3
def dkwX7_lucksOf_1 : List UInt8 := [4, 167, 0, 4, 3, 54, 4, 42, 180, 0, 7, 27, 46]
abbrev dktX7_lucksOf_1 : List UInt8 := dkwX7_lucksOf_1 ++ dktX7_lucksOf_2
def dkwX7_lucksOf_0 : List UInt8 := [42, 4, 27, 28, 182, 0, 168, 62, 42, 180, 0, 16, 6, 27, 104, 46, 28, 122, 4, 126, 4, 160, 0, 7]
abbrev dktX7_lucksOf_0 : List UInt8 := dkwX7_lucksOf_0 ++ dktX7_lucksOf_1
theorem dksX7_lucksOf_0 : cX7_lucksOf.data.toList.drop 0 = dktX7_lucksOf_0 := by decide +kernel
theorem dksX7_lucksOf_1 : cX7_lucksOf.data.toList.drop 24 = dktX7_lucksOf_1 := dk_seg dksX7_lucksOf_0 24 rfl rfl
theorem dksX7_lucksOf_2 : cX7_lucksOf.data.toList.drop 37 = dktX7_lucksOf_2 := dk_seg dksX7_lucksOf_1 13 rfl rfl
theorem dksX7_lucksOf_3 : cX7_lucksOf.data.toList.drop 68 = dktX7_lucksOf_3 := dk_seg dksX7_lucksOf_2 31 rfl rfl
theorem dksX7_lucksOf_4 : cX7_lucksOf.data.toList.drop 92 = dktX7_lucksOf_4 := dk_seg dksX7_lucksOf_3 24 rfl rfl
theorem dX7_lucksOf_0 : decode cX7_lucksOf 0 = .ok (.aload_n 0, 1) := dk_42 (dk_at dksX7_lucksOf_0 0 rfl rfl)
theorem dX7_lucksOf_1 : decode cX7_lucksOf 1 = .ok (.iconst 1, 1) := dk_4 (dk_at dksX7_lucksOf_0 1 rfl rfl)
theorem dX7_lucksOf_2 : decode cX7_lucksOf 2 = .ok (.iload_n 1, 1) := dk_27 (dk_at dksX7_lucksOf_0 2 rfl rfl)
theorem dX7_lucksOf_3 : decode cX7_lucksOf 3 = .ok (.iload_n 2, 1) := dk_28 (dk_at dksX7_lucksOf_0 3 rfl rfl)
theorem dX7_lucksOf_4 : decode cX7_lucksOf 4 = .ok (.invokevirtual 168, 3) := dk_182 0 168 (dk_at dksX7_lucksOf_0 4 rfl rfl)
theorem dX7_lucksOf_7 : decode cX7_lucksOf 7 = .ok (.istore_n 3, 1) := dk_62 (dk_at dksX7_lucksOf_0 7 rfl rfl)
theorem dX7_lucksOf_8 : decode cX7_lucksOf 8 = .ok (.aload_n 0, 1) := dk_42 (dk_at dksX7_lucksOf_0 8 rfl rfl)
theorem dX7_lucksOf_9 : decode cX7_lucksOf 9 = .ok (.getfield 16, 3) := dk_180 0 16 (dk_at dksX7_lucksOf_0 9 rfl rfl)
theorem dX7_lucksOf_12 : decode cX7_lucksOf 12 = .ok (.iconst 3, 1) := dk_6 (dk_at dksX7_lucksOf_0 12 rfl rfl)
theorem dX7_lucksOf_13 : decode cX7_lucksOf 13 = .ok (.iload_n 1, 1) := dk_27 (dk_at dksX7_lucksOf_0 13 rfl rfl)
theorem dX7_lucksOf_14 : decode cX7_lucksOf 14 = .ok (.imul, 1) := dk_104 (dk_at dksX7_lucksOf_0 14 rfl rfl)
theorem dX7_lucksOf_15 : decode cX7_lucksOf 15 = .ok (.iaload, 1) := dk_46 (dk_at dksX7_lucksOf_0 15 rfl rfl)
theorem dX7_lucksOf_16 : decode cX7_lucksOf 16 = .ok (.iload_n 2, 1) := dk_28 (dk_at dksX7_lucksOf_0 16 rfl rfl)
theorem dX7_lucksOf_17 : decode cX7_lucksOf 17 = .ok (.ishr, 1) := dk_122 (dk_at dksX7_lucksOf_0 17 rfl rfl)
theorem dX7_lucksOf_18 : decode cX7_lucksOf 18 = .ok (.iconst 1, 1) := dk_4 (dk_at dksX7_lucksOf_0 18 rfl rfl)
theorem dX7_lucksOf_19 : decode cX7_lucksOf 19 = .ok (.iand, 1) := dk_126 (dk_at dksX7_lucksOf_0 19 rfl rfl)
theorem dX7_lucksOf_20 : decode cX7_lucksOf 20 = .ok (.iconst 1, 1) := dk_4 (dk_at dksX7_lucksOf_0 20 rfl rfl)
theorem dX7_lucksOf_21 : decode cX7_lucksOf 21 = .ok (.if_icmp .ne 7, 3) := dk_160 0 7 (dk_at dksX7_lucksOf_0 21 rfl rfl)
theorem dX7_lucksOf_24 : decode cX7_lucksOf 24 = .ok (.iconst 1, 1) := dk_4 (dk_at dksX7_lucksOf_1 0 rfl rfl)
theorem dX7_lucksOf_25 : decode cX7_lucksOf 25 = .ok (.goto 4, 3) := dk_167 0 4 (dk_at dksX7_lucksOf_1 1 rfl rfl)
theorem dX7_lucksOf_28 : decode cX7_lucksOf 28 = .ok (.iconst 0, 1) := dk_3 (dk_at dksX7_lucksOf_1 4 rfl rfl)
theorem dX7_lucksOf_29 : decode cX7_lucksOf 29 = .ok (.istore 4, 2) := dk_54 4 (dk_at dksX7_lucksOf_1 5 rfl rfl)
theorem dX7_lucksOf_31 : decode cX7_lucksOf 31 = .ok (.aload_n 0, 1) := dk_42 (dk_at dksX7_lucksOf_1 7 rfl rfl)
theorem dX7_lucksOf_32 : decode cX7_lucksOf 32 = .ok (.getfield 7, 3) := dk_180 0 7 (dk_at dksX7_lucksOf_1 8 rfl rfl)
theorem dX7_lucksOf_35 : decode cX7_lucksOf 35 = .ok (.iload_n 1, 1) := dk_27 (dk_at dksX7_lucksOf_1 11 rfl rfl)
theorem dX7_lucksOf_36 : decode cX7_lucksOf 36 = .ok (.iaload, 1) := dk_46 (dk_at dksX7_lucksOf_1 12 rfl rfl)
theorem dX7_lucksOf_37 : decode cX7_lucksOf 37 = .ok (.tableswitch 71 1 4 #[31, 49, 31, 53], 31) := by decide +kernel
theorem dX7_lucksOf_68 : decode cX7_lucksOf 68 = .ok (.iload 4, 2) := dk_21 4 (dk_at dksX7_lucksOf_3 0 rfl rfl)
theorem dX7_lucksOf_70 : decode cX7_lucksOf 70 = .ok (.ifCond .eq 7, 3) := dk_153 0 7 (dk_at dksX7_lucksOf_3 2 rfl rfl)
theorem dX7_lucksOf_73 : decode cX7_lucksOf 73 = .ok (.iload_n 3, 1) := dk_29 (dk_at dksX7_lucksOf_3 5 rfl rfl)
theorem dX7_lucksOf_74 : decode cX7_lucksOf 74 = .ok (.goto 11, 3) := dk_167 0 11 (dk_at dksX7_lucksOf_3 6 rfl rfl)
theorem dX7_lucksOf_77 : decode cX7_lucksOf 77 = .ok (.iload_n 3, 1) := dk_29 (dk_at dksX7_lucksOf_3 9 rfl rfl)
theorem dX7_lucksOf_78 : decode cX7_lucksOf 78 = .ok (.aload_n 0, 1) := dk_42 (dk_at dksX7_lucksOf_3 10 rfl rfl)
theorem dX7_lucksOf_79 : decode cX7_lucksOf 79 = .ok (.getfield 13, 3) := dk_180 0 13 (dk_at dksX7_lucksOf_3 11 rfl rfl)
theorem dX7_lucksOf_82 : decode cX7_lucksOf 82 = .ok (.iload_n 1, 1) := dk_27 (dk_at dksX7_lucksOf_3 14 rfl rfl)
theorem dX7_lucksOf_83 : decode cX7_lucksOf 83 = .ok (.iaload, 1) := dk_46 (dk_at dksX7_lucksOf_3 15 rfl rfl)
theorem dX7_lucksOf_84 : decode cX7_lucksOf 84 = .ok (.isub, 1) := dk_100 (dk_at dksX7_lucksOf_3 16 rfl rfl)
theorem dX7_lucksOf_85 : decode cX7_lucksOf 85 = .ok (.ireturn, 1) := dk_172 (dk_at dksX7_lucksOf_3 17 rfl rfl)
theorem dX7_lucksOf_86 : decode cX7_lucksOf 86 = .ok (.iload_n 3, 1) := dk_29 (dk_at dksX7_lucksOf_3 18 rfl rfl)
theorem dX7_lucksOf_87 : decode cX7_lucksOf 87 = .ok (.iconst 2, 1) := dk_5 (dk_at dksX7_lucksOf_3 19 rfl rfl)
theorem dX7_lucksOf_88 : decode cX7_lucksOf 88 = .ok (.idiv, 1) := dk_108 (dk_at dksX7_lucksOf_3 20 rfl rfl)
theorem dX7_lucksOf_89 : decode cX7_lucksOf 89 = .ok (.ireturn, 1) := dk_172 (dk_at dksX7_lucksOf_3 21 rfl rfl)
theorem dX7_lucksOf_90 : decode cX7_lucksOf 90 = .ok (.iload 4, 2) := dk_21 4 (dk_at dksX7_lucksOf_3 22 rfl rfl)
theorem dX7_lucksOf_92 : decode cX7_lucksOf 92 = .ok (.ifCond .eq 12, 3) := dk_153 0 12 (dk_at dksX7_lucksOf_4 0 rfl rfl)
theorem dX7_lucksOf_95 : decode cX7_lucksOf 95 = .ok (.aload_n 0, 1) := dk_42 (dk_at dksX7_lucksOf_4 3 rfl rfl)
theorem dX7_lucksOf_96 : decode cX7_lucksOf 96 = .ok (.getfield 13, 3) := dk_180 0 13 (dk_at dksX7_lucksOf_4 4 rfl rfl)
theorem dX7_lucksOf_99 : decode cX7_lucksOf 99 = .ok (.iload_n 1, 1) := dk_27 (dk_at dksX7_lucksOf_4 7 rfl rfl)
theorem dX7_lucksOf_100 : decode cX7_lucksOf 100 = .ok (.iaload, 1) := dk_46 (dk_at dksX7_lucksOf_4 8 rfl rfl)
theorem dX7_lucksOf_101 : decode cX7_lucksOf 101 = .ok (.goto 6, 3) := dk_167 0 6 (dk_at dksX7_lucksOf_4 9 rfl rfl)
theorem dX7_lucksOf_104 : decode cX7_lucksOf 104 = .ok (.iload_n 3, 1) := dk_29 (dk_at dksX7_lucksOf_4 12 rfl rfl)
theorem dX7_lucksOf_105 : decode cX7_lucksOf 105 = .ok (.iconst 2, 1) := dk_5 (dk_at dksX7_lucksOf_4 13 rfl rfl)
theorem dX7_lucksOf_106 : decode cX7_lucksOf 106 = .ok (.idiv, 1) := dk_108 (dk_at dksX7_lucksOf_4 14 rfl rfl)
theorem dX7_lucksOf_107 : decode cX7_lucksOf 107 = .ok (.ireturn, 1) := dk_172 (dk_at dksX7_lucksOf_4 15 rfl rfl)
theorem dX7_lucksOf_108 : decode cX7_lucksOf 108 = .ok (.iload_n 3, 1) := dk_29 (dk_at dksX7_lucksOf_4 16 rfl rfl)
theorem dX7_lucksOf_109 : decode cX7_lucksOf 109 = .ok (.ireturn, 1) := dk_172 (dk_at dksX7_lucksOf_4 17 rfl rfl)
abbrev cX7_land : ByteArray := prog_19_method_37_code
def yX7_land : MethodName := ⟨RX7, "land", "(II)I"⟩
def dkwX7_land_1 : List UInt8 := [167, 0, 5, 16, 250, 172]
abbrev dktX7_land_1 : List UInt8 := dkwX7_land_1 ++ []
def dkwX7_land_0 : List UInt8 := [42, 27, 182, 0, 162, 154, 0, 6, 16, 251, 172, 28, 184, 0, 165, 153, 0, 12, 42, 27, 28, 182, 0, 183]
abbrev dktX7_land_0 : List UInt8 := dkwX7_land_0 ++ dktX7_land_1
theorem dksX7_land_0 : cX7_land.data.toList.drop 0 = dktX7_land_0 := by decide +kernel
theorem dksX7_land_1 : cX7_land.data.toList.drop 24 = dktX7_land_1 := dk_seg dksX7_land_0 24 rfl rfl
theorem dX7_land_0 : decode cX7_land 0 = .ok (.aload_n 0, 1) := dk_42 (dk_at dksX7_land_0 0 rfl rfl)
theorem dX7_land_1 : decode cX7_land 1 = .ok (.iload_n 1, 1) := dk_27 (dk_at dksX7_land_0 1 rfl rfl)
theorem dX7_land_2 : decode cX7_land 2 = .ok (.invokevirtual 162, 3) := dk_182 0 162 (dk_at dksX7_land_0 2 rfl rfl)
theorem dX7_land_5 : decode cX7_land 5 = .ok (.ifCond .ne 6, 3) := dk_154 0 6 (dk_at dksX7_land_0 5 rfl rfl)
theorem dX7_land_8 : decode cX7_land 8 = .ok (.bipush (-5), 2) := dk_16 251 (dk_at dksX7_land_0 8 rfl rfl)
theorem dX7_land_10 : decode cX7_land 10 = .ok (.ireturn, 1) := dk_172 (dk_at dksX7_land_0 10 rfl rfl)
theorem dX7_land_11 : decode cX7_land 11 = .ok (.iload_n 2, 1) := dk_28 (dk_at dksX7_land_0 11 rfl rfl)
theorem dX7_land_12 : decode cX7_land 12 = .ok (.invokestatic 165, 3) := dk_184 0 165 (dk_at dksX7_land_0 12 rfl rfl)
theorem dX7_land_15 : decode cX7_land 15 = .ok (.ifCond .eq 12, 3) := dk_153 0 12 (dk_at dksX7_land_0 15 rfl rfl)
theorem dX7_land_18 : decode cX7_land 18 = .ok (.aload_n 0, 1) := dk_42 (dk_at dksX7_land_0 18 rfl rfl)
theorem dX7_land_19 : decode cX7_land 19 = .ok (.iload_n 1, 1) := dk_27 (dk_at dksX7_land_0 19 rfl rfl)
theorem dX7_land_20 : decode cX7_land 20 = .ok (.iload_n 2, 1) := dk_28 (dk_at dksX7_land_0 20 rfl rfl)
theorem dX7_land_21 : decode cX7_land 21 = .ok (.invokevirtual 183, 3) := dk_182 0 183 (dk_at dksX7_land_0 21 rfl rfl)
theorem dX7_land_24 : decode cX7_land 24 = .ok (.goto 5, 3) := dk_167 0 5 (dk_at dksX7_land_1 0 rfl rfl)
theorem dX7_land_27 : decode cX7_land 27 = .ok (.bipush (-6), 2) := dk_16 250 (dk_at dksX7_land_1 3 rfl rfl)
theorem dX7_land_29 : decode cX7_land 29 = .ok (.ireturn, 1) := dk_172 (dk_at dksX7_land_1 5 rfl rfl)
abbrev cX7_landOf : ByteArray := prog_19_method_36_code
def yX7_landOf : MethodName := ⟨RX7, "landOf", "(II)I"⟩
def dkwX7_landOf_3 : List UInt8 := [96, 42, 180, 0, 16, 6, 27, 104, 5, 96, 46, 21, 4, 96, 3, 16, 99, 184, 0, 159, 79, 29, 172]
abbrev dktX7_landOf_3 : List UInt8 := dkwX7_landOf_3 ++ []
def dkwX7_landOf_2 : List UInt8 := [2, 130, 126, 79, 42, 89, 180, 0, 76, 4, 29, 120, 128, 181, 0, 76, 42, 180, 0, 16, 6, 27, 104, 5]
abbrev dktX7_landOf_2 : List UInt8 := dkwX7_landOf_2 ++ dktX7_landOf_3
def dkwX7_landOf_1 : List UInt8 := [92, 46, 4, 28, 120, 128, 79, 29, 2, 159, 0, 31, 42, 180, 0, 16, 6, 27, 104, 92, 46, 4, 29, 120]
abbrev dktX7_landOf_1 : List UInt8 := dkwX7_landOf_1 ++ dktX7_landOf_2
def dkwX7_landOf_0 : List UInt8 := [42, 27, 28, 182, 0, 177, 62, 42, 27, 28, 182, 0, 180, 54, 4, 42, 180, 0, 16, 6, 27, 104, 4, 96]
abbrev dktX7_landOf_0 : List UInt8 := dkwX7_landOf_0 ++ dktX7_landOf_1
theorem dksX7_landOf_0 : cX7_landOf.data.toList.drop 0 = dktX7_landOf_0 := by decide +kernel
theorem dksX7_landOf_1 : cX7_landOf.data.toList.drop 24 = dktX7_landOf_1 := dk_seg dksX7_landOf_0 24 rfl rfl
theorem dksX7_landOf_2 : cX7_landOf.data.toList.drop 48 = dktX7_landOf_2 := dk_seg dksX7_landOf_1 24 rfl rfl
theorem dksX7_landOf_3 : cX7_landOf.data.toList.drop 72 = dktX7_landOf_3 := dk_seg dksX7_landOf_2 24 rfl rfl
theorem dX7_landOf_0 : decode cX7_landOf 0 = .ok (.aload_n 0, 1) := dk_42 (dk_at dksX7_landOf_0 0 rfl rfl)
theorem dX7_landOf_1 : decode cX7_landOf 1 = .ok (.iload_n 1, 1) := dk_27 (dk_at dksX7_landOf_0 1 rfl rfl)
theorem dX7_landOf_2 : decode cX7_landOf 2 = .ok (.iload_n 2, 1) := dk_28 (dk_at dksX7_landOf_0 2 rfl rfl)
theorem dX7_landOf_3 : decode cX7_landOf 3 = .ok (.invokevirtual 177, 3) := dk_182 0 177 (dk_at dksX7_landOf_0 3 rfl rfl)
theorem dX7_landOf_6 : decode cX7_landOf 6 = .ok (.istore_n 3, 1) := dk_62 (dk_at dksX7_landOf_0 6 rfl rfl)
theorem dX7_landOf_7 : decode cX7_landOf 7 = .ok (.aload_n 0, 1) := dk_42 (dk_at dksX7_landOf_0 7 rfl rfl)
theorem dX7_landOf_8 : decode cX7_landOf 8 = .ok (.iload_n 1, 1) := dk_27 (dk_at dksX7_landOf_0 8 rfl rfl)
theorem dX7_landOf_9 : decode cX7_landOf 9 = .ok (.iload_n 2, 1) := dk_28 (dk_at dksX7_landOf_0 9 rfl rfl)
theorem dX7_landOf_10 : decode cX7_landOf 10 = .ok (.invokevirtual 180, 3) := dk_182 0 180 (dk_at dksX7_landOf_0 10 rfl rfl)
theorem dX7_landOf_13 : decode cX7_landOf 13 = .ok (.istore 4, 2) := dk_54 4 (dk_at dksX7_landOf_0 13 rfl rfl)
theorem dX7_landOf_15 : decode cX7_landOf 15 = .ok (.aload_n 0, 1) := dk_42 (dk_at dksX7_landOf_0 15 rfl rfl)
theorem dX7_landOf_16 : decode cX7_landOf 16 = .ok (.getfield 16, 3) := dk_180 0 16 (dk_at dksX7_landOf_0 16 rfl rfl)
theorem dX7_landOf_19 : decode cX7_landOf 19 = .ok (.iconst 3, 1) := dk_6 (dk_at dksX7_landOf_0 19 rfl rfl)
theorem dX7_landOf_20 : decode cX7_landOf 20 = .ok (.iload_n 1, 1) := dk_27 (dk_at dksX7_landOf_0 20 rfl rfl)
theorem dX7_landOf_21 : decode cX7_landOf 21 = .ok (.imul, 1) := dk_104 (dk_at dksX7_landOf_0 21 rfl rfl)
theorem dX7_landOf_22 : decode cX7_landOf 22 = .ok (.iconst 1, 1) := dk_4 (dk_at dksX7_landOf_0 22 rfl rfl)
theorem dX7_landOf_23 : decode cX7_landOf 23 = .ok (.iadd, 1) := dk_96 (dk_at dksX7_landOf_0 23 rfl rfl)
theorem dX7_landOf_24 : decode cX7_landOf 24 = .ok (.dup2, 1) := dk_92 (dk_at dksX7_landOf_1 0 rfl rfl)
theorem dX7_landOf_25 : decode cX7_landOf 25 = .ok (.iaload, 1) := dk_46 (dk_at dksX7_landOf_1 1 rfl rfl)
theorem dX7_landOf_26 : decode cX7_landOf 26 = .ok (.iconst 1, 1) := dk_4 (dk_at dksX7_landOf_1 2 rfl rfl)
theorem dX7_landOf_27 : decode cX7_landOf 27 = .ok (.iload_n 2, 1) := dk_28 (dk_at dksX7_landOf_1 3 rfl rfl)
theorem dX7_landOf_28 : decode cX7_landOf 28 = .ok (.ishl, 1) := dk_120 (dk_at dksX7_landOf_1 4 rfl rfl)
theorem dX7_landOf_29 : decode cX7_landOf 29 = .ok (.ior, 1) := dk_128 (dk_at dksX7_landOf_1 5 rfl rfl)
theorem dX7_landOf_30 : decode cX7_landOf 30 = .ok (.iastore, 1) := dk_79 (dk_at dksX7_landOf_1 6 rfl rfl)
theorem dX7_landOf_31 : decode cX7_landOf 31 = .ok (.iload_n 3, 1) := dk_29 (dk_at dksX7_landOf_1 7 rfl rfl)
theorem dX7_landOf_32 : decode cX7_landOf 32 = .ok (.iconst (-1), 1) := dk_2 (dk_at dksX7_landOf_1 8 rfl rfl)
theorem dX7_landOf_33 : decode cX7_landOf 33 = .ok (.if_icmp .eq 31, 3) := dk_159 0 31 (dk_at dksX7_landOf_1 9 rfl rfl)
theorem dX7_landOf_36 : decode cX7_landOf 36 = .ok (.aload_n 0, 1) := dk_42 (dk_at dksX7_landOf_1 12 rfl rfl)
theorem dX7_landOf_37 : decode cX7_landOf 37 = .ok (.getfield 16, 3) := dk_180 0 16 (dk_at dksX7_landOf_1 13 rfl rfl)
theorem dX7_landOf_40 : decode cX7_landOf 40 = .ok (.iconst 3, 1) := dk_6 (dk_at dksX7_landOf_1 16 rfl rfl)
theorem dX7_landOf_41 : decode cX7_landOf 41 = .ok (.iload_n 1, 1) := dk_27 (dk_at dksX7_landOf_1 17 rfl rfl)
theorem dX7_landOf_42 : decode cX7_landOf 42 = .ok (.imul, 1) := dk_104 (dk_at dksX7_landOf_1 18 rfl rfl)
theorem dX7_landOf_43 : decode cX7_landOf 43 = .ok (.dup2, 1) := dk_92 (dk_at dksX7_landOf_1 19 rfl rfl)
theorem dX7_landOf_44 : decode cX7_landOf 44 = .ok (.iaload, 1) := dk_46 (dk_at dksX7_landOf_1 20 rfl rfl)
theorem dX7_landOf_45 : decode cX7_landOf 45 = .ok (.iconst 1, 1) := dk_4 (dk_at dksX7_landOf_1 21 rfl rfl)
theorem dX7_landOf_46 : decode cX7_landOf 46 = .ok (.iload_n 3, 1) := dk_29 (dk_at dksX7_landOf_1 22 rfl rfl)
theorem dX7_landOf_47 : decode cX7_landOf 47 = .ok (.ishl, 1) := dk_120 (dk_at dksX7_landOf_1 23 rfl rfl)
theorem dX7_landOf_48 : decode cX7_landOf 48 = .ok (.iconst (-1), 1) := dk_2 (dk_at dksX7_landOf_2 0 rfl rfl)
theorem dX7_landOf_49 : decode cX7_landOf 49 = .ok (.ixor, 1) := dk_130 (dk_at dksX7_landOf_2 1 rfl rfl)
theorem dX7_landOf_50 : decode cX7_landOf 50 = .ok (.iand, 1) := dk_126 (dk_at dksX7_landOf_2 2 rfl rfl)
theorem dX7_landOf_51 : decode cX7_landOf 51 = .ok (.iastore, 1) := dk_79 (dk_at dksX7_landOf_2 3 rfl rfl)
theorem dX7_landOf_52 : decode cX7_landOf 52 = .ok (.aload_n 0, 1) := dk_42 (dk_at dksX7_landOf_2 4 rfl rfl)
theorem dX7_landOf_53 : decode cX7_landOf 53 = .ok (.dup, 1) := dk_89 (dk_at dksX7_landOf_2 5 rfl rfl)
theorem dX7_landOf_54 : decode cX7_landOf 54 = .ok (.getfield 76, 3) := dk_180 0 76 (dk_at dksX7_landOf_2 6 rfl rfl)
theorem dX7_landOf_57 : decode cX7_landOf 57 = .ok (.iconst 1, 1) := dk_4 (dk_at dksX7_landOf_2 9 rfl rfl)
theorem dX7_landOf_58 : decode cX7_landOf 58 = .ok (.iload_n 3, 1) := dk_29 (dk_at dksX7_landOf_2 10 rfl rfl)
theorem dX7_landOf_59 : decode cX7_landOf 59 = .ok (.ishl, 1) := dk_120 (dk_at dksX7_landOf_2 11 rfl rfl)
theorem dX7_landOf_60 : decode cX7_landOf 60 = .ok (.ior, 1) := dk_128 (dk_at dksX7_landOf_2 12 rfl rfl)
theorem dX7_landOf_61 : decode cX7_landOf 61 = .ok (.putfield 76, 3) := dk_181 0 76 (dk_at dksX7_landOf_2 13 rfl rfl)
theorem dX7_landOf_64 : decode cX7_landOf 64 = .ok (.aload_n 0, 1) := dk_42 (dk_at dksX7_landOf_2 16 rfl rfl)
theorem dX7_landOf_65 : decode cX7_landOf 65 = .ok (.getfield 16, 3) := dk_180 0 16 (dk_at dksX7_landOf_2 17 rfl rfl)
theorem dX7_landOf_68 : decode cX7_landOf 68 = .ok (.iconst 3, 1) := dk_6 (dk_at dksX7_landOf_2 20 rfl rfl)
theorem dX7_landOf_69 : decode cX7_landOf 69 = .ok (.iload_n 1, 1) := dk_27 (dk_at dksX7_landOf_2 21 rfl rfl)
theorem dX7_landOf_70 : decode cX7_landOf 70 = .ok (.imul, 1) := dk_104 (dk_at dksX7_landOf_2 22 rfl rfl)
theorem dX7_landOf_71 : decode cX7_landOf 71 = .ok (.iconst 2, 1) := dk_5 (dk_at dksX7_landOf_2 23 rfl rfl)
theorem dX7_landOf_72 : decode cX7_landOf 72 = .ok (.iadd, 1) := dk_96 (dk_at dksX7_landOf_3 0 rfl rfl)
theorem dX7_landOf_73 : decode cX7_landOf 73 = .ok (.aload_n 0, 1) := dk_42 (dk_at dksX7_landOf_3 1 rfl rfl)
theorem dX7_landOf_74 : decode cX7_landOf 74 = .ok (.getfield 16, 3) := dk_180 0 16 (dk_at dksX7_landOf_3 2 rfl rfl)
theorem dX7_landOf_77 : decode cX7_landOf 77 = .ok (.iconst 3, 1) := dk_6 (dk_at dksX7_landOf_3 5 rfl rfl)
theorem dX7_landOf_78 : decode cX7_landOf 78 = .ok (.iload_n 1, 1) := dk_27 (dk_at dksX7_landOf_3 6 rfl rfl)
theorem dX7_landOf_79 : decode cX7_landOf 79 = .ok (.imul, 1) := dk_104 (dk_at dksX7_landOf_3 7 rfl rfl)
theorem dX7_landOf_80 : decode cX7_landOf 80 = .ok (.iconst 2, 1) := dk_5 (dk_at dksX7_landOf_3 8 rfl rfl)
theorem dX7_landOf_81 : decode cX7_landOf 81 = .ok (.iadd, 1) := dk_96 (dk_at dksX7_landOf_3 9 rfl rfl)
theorem dX7_landOf_82 : decode cX7_landOf 82 = .ok (.iaload, 1) := dk_46 (dk_at dksX7_landOf_3 10 rfl rfl)
theorem dX7_landOf_83 : decode cX7_landOf 83 = .ok (.iload 4, 2) := dk_21 4 (dk_at dksX7_landOf_3 11 rfl rfl)
theorem dX7_landOf_85 : decode cX7_landOf 85 = .ok (.iadd, 1) := dk_96 (dk_at dksX7_landOf_3 13 rfl rfl)
theorem dX7_landOf_86 : decode cX7_landOf 86 = .ok (.iconst 0, 1) := dk_3 (dk_at dksX7_landOf_3 14 rfl rfl)
theorem dX7_landOf_87 : decode cX7_landOf 87 = .ok (.bipush 99, 2) := dk_16 99 (dk_at dksX7_landOf_3 15 rfl rfl)
theorem dX7_landOf_89 : decode cX7_landOf 89 = .ok (.invokestatic 159, 3) := dk_184 0 159 (dk_at dksX7_landOf_3 17 rfl rfl)
theorem dX7_landOf_92 : decode cX7_landOf 92 = .ok (.iastore, 1) := dk_79 (dk_at dksX7_landOf_3 20 rfl rfl)
theorem dX7_landOf_93 : decode cX7_landOf 93 = .ok (.iload_n 3, 1) := dk_29 (dk_at dksX7_landOf_3 21 rfl rfl)
theorem dX7_landOf_94 : decode cX7_landOf 94 = .ok (.ireturn, 1) := dk_172 (dk_at dksX7_landOf_3 22 rfl rfl)
abbrev cX7_teach : ByteArray := prog_19_method_39_code
def yX7_teach : MethodName := ⟨RX7, "teach", "(II)I"⟩
def dkwX7_teach_1 : List UInt8 := [182, 0, 186, 167, 0, 5, 16, 251, 172]
abbrev dktX7_teach_1 : List UInt8 := dkwX7_teach_1 ++ []
def dkwX7_teach_0 : List UInt8 := [42, 27, 182, 0, 162, 153, 0, 25, 42, 28, 182, 0, 162, 153, 0, 17, 27, 28, 159, 0, 12, 42, 27, 28]
abbrev dktX7_teach_0 : List UInt8 := dkwX7_teach_0 ++ dktX7_teach_1
theorem dksX7_teach_0 : cX7_teach.data.toList.drop 0 = dktX7_teach_0 := by decide +kernel
theorem dksX7_teach_1 : cX7_teach.data.toList.drop 24 = dktX7_teach_1 := dk_seg dksX7_teach_0 24 rfl rfl
theorem dX7_teach_0 : decode cX7_teach 0 = .ok (.aload_n 0, 1) := dk_42 (dk_at dksX7_teach_0 0 rfl rfl)
theorem dX7_teach_1 : decode cX7_teach 1 = .ok (.iload_n 1, 1) := dk_27 (dk_at dksX7_teach_0 1 rfl rfl)
theorem dX7_teach_2 : decode cX7_teach 2 = .ok (.invokevirtual 162, 3) := dk_182 0 162 (dk_at dksX7_teach_0 2 rfl rfl)
theorem dX7_teach_5 : decode cX7_teach 5 = .ok (.ifCond .eq 25, 3) := dk_153 0 25 (dk_at dksX7_teach_0 5 rfl rfl)
theorem dX7_teach_8 : decode cX7_teach 8 = .ok (.aload_n 0, 1) := dk_42 (dk_at dksX7_teach_0 8 rfl rfl)
theorem dX7_teach_9 : decode cX7_teach 9 = .ok (.iload_n 2, 1) := dk_28 (dk_at dksX7_teach_0 9 rfl rfl)
theorem dX7_teach_10 : decode cX7_teach 10 = .ok (.invokevirtual 162, 3) := dk_182 0 162 (dk_at dksX7_teach_0 10 rfl rfl)
theorem dX7_teach_13 : decode cX7_teach 13 = .ok (.ifCond .eq 17, 3) := dk_153 0 17 (dk_at dksX7_teach_0 13 rfl rfl)
theorem dX7_teach_16 : decode cX7_teach 16 = .ok (.iload_n 1, 1) := dk_27 (dk_at dksX7_teach_0 16 rfl rfl)
theorem dX7_teach_17 : decode cX7_teach 17 = .ok (.iload_n 2, 1) := dk_28 (dk_at dksX7_teach_0 17 rfl rfl)
theorem dX7_teach_18 : decode cX7_teach 18 = .ok (.if_icmp .eq 12, 3) := dk_159 0 12 (dk_at dksX7_teach_0 18 rfl rfl)
theorem dX7_teach_21 : decode cX7_teach 21 = .ok (.aload_n 0, 1) := dk_42 (dk_at dksX7_teach_0 21 rfl rfl)
theorem dX7_teach_22 : decode cX7_teach 22 = .ok (.iload_n 1, 1) := dk_27 (dk_at dksX7_teach_0 22 rfl rfl)
theorem dX7_teach_23 : decode cX7_teach 23 = .ok (.iload_n 2, 1) := dk_28 (dk_at dksX7_teach_0 23 rfl rfl)
theorem dX7_teach_24 : decode cX7_teach 24 = .ok (.invokevirtual 186, 3) := dk_182 0 186 (dk_at dksX7_teach_1 0 rfl rfl)
theorem dX7_teach_27 : decode cX7_teach 27 = .ok (.goto 5, 3) := dk_167 0 5 (dk_at dksX7_teach_1 3 rfl rfl)
theorem dX7_teach_30 : decode cX7_teach 30 = .ok (.bipush (-5), 2) := dk_16 251 (dk_at dksX7_teach_1 6 rfl rfl)
theorem dX7_teach_32 : decode cX7_teach 32 = .ok (.ireturn, 1) := dk_172 (dk_at dksX7_teach_1 8 rfl rfl)
abbrev cX7_lessonOf : ByteArray := prog_19_method_38_code
def yX7_lessonOf : MethodName := ⟨RX7, "lessonOf", "(II)I"⟩
def dkwX7_lessonOf_4 : List UInt8 := [172]
abbrev dktX7_lessonOf_4 : List UInt8 := dkwX7_lessonOf_4 ++ []
def dkwX7_lessonOf_3 : List UInt8 := [132, 6, 1, 132, 7, 1, 167, 255, 217, 42, 180, 0, 16, 6, 28, 104, 92, 46, 21, 5, 128, 79, 21, 5]
abbrev dktX7_lessonOf_3 : List UInt8 := dkwX7_lessonOf_3 ++ dktX7_lessonOf_4
def dkwX7_lessonOf_2 : List UInt8 := [21, 4, 162, 0, 31, 29, 21, 7, 122, 4, 126, 4, 160, 0, 15, 21, 5, 4, 21, 7, 120, 128, 54, 5]
abbrev dktX7_lessonOf_2 : List UInt8 := dkwX7_lessonOf_2 ++ dktX7_lessonOf_3
def dkwX7_lessonOf_1 : List UInt8 := [182, 0, 174, 54, 4, 3, 54, 5, 3, 54, 6, 3, 54, 7, 21, 7, 16, 16, 162, 0, 38, 21, 6]
abbrev dktX7_lessonOf_1 : List UInt8 := dkwX7_lessonOf_1 ++ dktX7_lessonOf_2
def dkwX7_lessonOf_0 : List UInt8 := [42, 180, 0, 16, 6, 27, 104, 46, 42, 180, 0, 16, 6, 28, 104, 46, 2, 130, 126, 62, 42, 28]
abbrev dktX7_lessonOf_0 : List UInt8 := dkwX7_lessonOf_0 ++ dktX7_lessonOf_1
theorem dksX7_lessonOf_0 : cX7_lessonOf.data.toList.drop 0 = dktX7_lessonOf_0 := by decide +kernel
theorem dksX7_lessonOf_1 : cX7_lessonOf.data.toList.drop 22 = dktX7_lessonOf_1 := dk_seg dksX7_lessonOf_0 22 rfl rfl
theorem dksX7_lessonOf_2 : cX7_lessonOf.data.toList.drop 45 = dktX7_lessonOf_2 := dk_seg dksX7_lessonOf_1 23 rfl rfl
theorem dksX7_lessonOf_3 : cX7_lessonOf.data.toList.drop 69 = dktX7_lessonOf_3 := dk_seg dksX7_lessonOf_2 24 rfl rfl
theorem dksX7_lessonOf_4 : cX7_lessonOf.data.toList.drop 93 = dktX7_lessonOf_4 := dk_seg dksX7_lessonOf_3 24 rfl rfl
theorem dX7_lessonOf_0 : decode cX7_lessonOf 0 = .ok (.aload_n 0, 1) := dk_42 (dk_at dksX7_lessonOf_0 0 rfl rfl)
theorem dX7_lessonOf_1 : decode cX7_lessonOf 1 = .ok (.getfield 16, 3) := dk_180 0 16 (dk_at dksX7_lessonOf_0 1 rfl rfl)
theorem dX7_lessonOf_4 : decode cX7_lessonOf 4 = .ok (.iconst 3, 1) := dk_6 (dk_at dksX7_lessonOf_0 4 rfl rfl)
theorem dX7_lessonOf_5 : decode cX7_lessonOf 5 = .ok (.iload_n 1, 1) := dk_27 (dk_at dksX7_lessonOf_0 5 rfl rfl)
theorem dX7_lessonOf_6 : decode cX7_lessonOf 6 = .ok (.imul, 1) := dk_104 (dk_at dksX7_lessonOf_0 6 rfl rfl)
theorem dX7_lessonOf_7 : decode cX7_lessonOf 7 = .ok (.iaload, 1) := dk_46 (dk_at dksX7_lessonOf_0 7 rfl rfl)
theorem dX7_lessonOf_8 : decode cX7_lessonOf 8 = .ok (.aload_n 0, 1) := dk_42 (dk_at dksX7_lessonOf_0 8 rfl rfl)
theorem dX7_lessonOf_9 : decode cX7_lessonOf 9 = .ok (.getfield 16, 3) := dk_180 0 16 (dk_at dksX7_lessonOf_0 9 rfl rfl)
theorem dX7_lessonOf_12 : decode cX7_lessonOf 12 = .ok (.iconst 3, 1) := dk_6 (dk_at dksX7_lessonOf_0 12 rfl rfl)
theorem dX7_lessonOf_13 : decode cX7_lessonOf 13 = .ok (.iload_n 2, 1) := dk_28 (dk_at dksX7_lessonOf_0 13 rfl rfl)
theorem dX7_lessonOf_14 : decode cX7_lessonOf 14 = .ok (.imul, 1) := dk_104 (dk_at dksX7_lessonOf_0 14 rfl rfl)
theorem dX7_lessonOf_15 : decode cX7_lessonOf 15 = .ok (.iaload, 1) := dk_46 (dk_at dksX7_lessonOf_0 15 rfl rfl)
theorem dX7_lessonOf_16 : decode cX7_lessonOf 16 = .ok (.iconst (-1), 1) := dk_2 (dk_at dksX7_lessonOf_0 16 rfl rfl)
theorem dX7_lessonOf_17 : decode cX7_lessonOf 17 = .ok (.ixor, 1) := dk_130 (dk_at dksX7_lessonOf_0 17 rfl rfl)
theorem dX7_lessonOf_18 : decode cX7_lessonOf 18 = .ok (.iand, 1) := dk_126 (dk_at dksX7_lessonOf_0 18 rfl rfl)
theorem dX7_lessonOf_19 : decode cX7_lessonOf 19 = .ok (.istore_n 3, 1) := dk_62 (dk_at dksX7_lessonOf_0 19 rfl rfl)
theorem dX7_lessonOf_20 : decode cX7_lessonOf 20 = .ok (.aload_n 0, 1) := dk_42 (dk_at dksX7_lessonOf_0 20 rfl rfl)
theorem dX7_lessonOf_21 : decode cX7_lessonOf 21 = .ok (.iload_n 2, 1) := dk_28 (dk_at dksX7_lessonOf_0 21 rfl rfl)
theorem dX7_lessonOf_22 : decode cX7_lessonOf 22 = .ok (.invokevirtual 174, 3) := dk_182 0 174 (dk_at dksX7_lessonOf_1 0 rfl rfl)
theorem dX7_lessonOf_25 : decode cX7_lessonOf 25 = .ok (.istore 4, 2) := dk_54 4 (dk_at dksX7_lessonOf_1 3 rfl rfl)
theorem dX7_lessonOf_27 : decode cX7_lessonOf 27 = .ok (.iconst 0, 1) := dk_3 (dk_at dksX7_lessonOf_1 5 rfl rfl)
theorem dX7_lessonOf_28 : decode cX7_lessonOf 28 = .ok (.istore 5, 2) := dk_54 5 (dk_at dksX7_lessonOf_1 6 rfl rfl)
theorem dX7_lessonOf_30 : decode cX7_lessonOf 30 = .ok (.iconst 0, 1) := dk_3 (dk_at dksX7_lessonOf_1 8 rfl rfl)
theorem dX7_lessonOf_31 : decode cX7_lessonOf 31 = .ok (.istore 6, 2) := dk_54 6 (dk_at dksX7_lessonOf_1 9 rfl rfl)
theorem dX7_lessonOf_33 : decode cX7_lessonOf 33 = .ok (.iconst 0, 1) := dk_3 (dk_at dksX7_lessonOf_1 11 rfl rfl)
theorem dX7_lessonOf_34 : decode cX7_lessonOf 34 = .ok (.istore 7, 2) := dk_54 7 (dk_at dksX7_lessonOf_1 12 rfl rfl)
theorem dX7_lessonOf_36 : decode cX7_lessonOf 36 = .ok (.iload 7, 2) := dk_21 7 (dk_at dksX7_lessonOf_1 14 rfl rfl)
theorem dX7_lessonOf_38 : decode cX7_lessonOf 38 = .ok (.bipush 16, 2) := dk_16 16 (dk_at dksX7_lessonOf_1 16 rfl rfl)
theorem dX7_lessonOf_40 : decode cX7_lessonOf 40 = .ok (.if_icmp .ge 38, 3) := dk_162 0 38 (dk_at dksX7_lessonOf_1 18 rfl rfl)
theorem dX7_lessonOf_43 : decode cX7_lessonOf 43 = .ok (.iload 6, 2) := dk_21 6 (dk_at dksX7_lessonOf_1 21 rfl rfl)
theorem dX7_lessonOf_45 : decode cX7_lessonOf 45 = .ok (.iload 4, 2) := dk_21 4 (dk_at dksX7_lessonOf_2 0 rfl rfl)
theorem dX7_lessonOf_47 : decode cX7_lessonOf 47 = .ok (.if_icmp .ge 31, 3) := dk_162 0 31 (dk_at dksX7_lessonOf_2 2 rfl rfl)
theorem dX7_lessonOf_50 : decode cX7_lessonOf 50 = .ok (.iload_n 3, 1) := dk_29 (dk_at dksX7_lessonOf_2 5 rfl rfl)
theorem dX7_lessonOf_51 : decode cX7_lessonOf 51 = .ok (.iload 7, 2) := dk_21 7 (dk_at dksX7_lessonOf_2 6 rfl rfl)
theorem dX7_lessonOf_53 : decode cX7_lessonOf 53 = .ok (.ishr, 1) := dk_122 (dk_at dksX7_lessonOf_2 8 rfl rfl)
theorem dX7_lessonOf_54 : decode cX7_lessonOf 54 = .ok (.iconst 1, 1) := dk_4 (dk_at dksX7_lessonOf_2 9 rfl rfl)
theorem dX7_lessonOf_55 : decode cX7_lessonOf 55 = .ok (.iand, 1) := dk_126 (dk_at dksX7_lessonOf_2 10 rfl rfl)
theorem dX7_lessonOf_56 : decode cX7_lessonOf 56 = .ok (.iconst 1, 1) := dk_4 (dk_at dksX7_lessonOf_2 11 rfl rfl)
theorem dX7_lessonOf_57 : decode cX7_lessonOf 57 = .ok (.if_icmp .ne 15, 3) := dk_160 0 15 (dk_at dksX7_lessonOf_2 12 rfl rfl)
theorem dX7_lessonOf_60 : decode cX7_lessonOf 60 = .ok (.iload 5, 2) := dk_21 5 (dk_at dksX7_lessonOf_2 15 rfl rfl)
theorem dX7_lessonOf_62 : decode cX7_lessonOf 62 = .ok (.iconst 1, 1) := dk_4 (dk_at dksX7_lessonOf_2 17 rfl rfl)
theorem dX7_lessonOf_63 : decode cX7_lessonOf 63 = .ok (.iload 7, 2) := dk_21 7 (dk_at dksX7_lessonOf_2 18 rfl rfl)
theorem dX7_lessonOf_65 : decode cX7_lessonOf 65 = .ok (.ishl, 1) := dk_120 (dk_at dksX7_lessonOf_2 20 rfl rfl)
theorem dX7_lessonOf_66 : decode cX7_lessonOf 66 = .ok (.ior, 1) := dk_128 (dk_at dksX7_lessonOf_2 21 rfl rfl)
theorem dX7_lessonOf_67 : decode cX7_lessonOf 67 = .ok (.istore 5, 2) := dk_54 5 (dk_at dksX7_lessonOf_2 22 rfl rfl)
theorem dX7_lessonOf_69 : decode cX7_lessonOf 69 = .ok (.iinc 6 1, 3) := dk_132 6 1 (dk_at dksX7_lessonOf_3 0 rfl rfl)
theorem dX7_lessonOf_72 : decode cX7_lessonOf 72 = .ok (.iinc 7 1, 3) := dk_132 7 1 (dk_at dksX7_lessonOf_3 3 rfl rfl)
theorem dX7_lessonOf_75 : decode cX7_lessonOf 75 = .ok (.goto (-39), 3) := dk_167 255 217 (dk_at dksX7_lessonOf_3 6 rfl rfl)
theorem dX7_lessonOf_78 : decode cX7_lessonOf 78 = .ok (.aload_n 0, 1) := dk_42 (dk_at dksX7_lessonOf_3 9 rfl rfl)
theorem dX7_lessonOf_79 : decode cX7_lessonOf 79 = .ok (.getfield 16, 3) := dk_180 0 16 (dk_at dksX7_lessonOf_3 10 rfl rfl)
theorem dX7_lessonOf_82 : decode cX7_lessonOf 82 = .ok (.iconst 3, 1) := dk_6 (dk_at dksX7_lessonOf_3 13 rfl rfl)
theorem dX7_lessonOf_83 : decode cX7_lessonOf 83 = .ok (.iload_n 2, 1) := dk_28 (dk_at dksX7_lessonOf_3 14 rfl rfl)
theorem dX7_lessonOf_84 : decode cX7_lessonOf 84 = .ok (.imul, 1) := dk_104 (dk_at dksX7_lessonOf_3 15 rfl rfl)
theorem dX7_lessonOf_85 : decode cX7_lessonOf 85 = .ok (.dup2, 1) := dk_92 (dk_at dksX7_lessonOf_3 16 rfl rfl)
theorem dX7_lessonOf_86 : decode cX7_lessonOf 86 = .ok (.iaload, 1) := dk_46 (dk_at dksX7_lessonOf_3 17 rfl rfl)
theorem dX7_lessonOf_87 : decode cX7_lessonOf 87 = .ok (.iload 5, 2) := dk_21 5 (dk_at dksX7_lessonOf_3 18 rfl rfl)
theorem dX7_lessonOf_89 : decode cX7_lessonOf 89 = .ok (.ior, 1) := dk_128 (dk_at dksX7_lessonOf_3 20 rfl rfl)
theorem dX7_lessonOf_90 : decode cX7_lessonOf 90 = .ok (.iastore, 1) := dk_79 (dk_at dksX7_lessonOf_3 21 rfl rfl)
theorem dX7_lessonOf_91 : decode cX7_lessonOf 91 = .ok (.iload 5, 2) := dk_21 5 (dk_at dksX7_lessonOf_3 22 rfl rfl)
theorem dX7_lessonOf_93 : decode cX7_lessonOf 93 = .ok (.ireturn, 1) := dk_172 (dk_at dksX7_lessonOf_4 0 rfl rfl)
abbrev cX7_tide : ByteArray := prog_19_method_41_code
def yX7_tide : MethodName := ⟨RX7, "tide", "()I"⟩
def dkwX7_tide_0 : List UInt8 := [42, 180, 0, 83, 17, 3, 231, 160, 0, 8, 16, 253, 167, 0, 7, 42, 182, 0, 189, 172]
abbrev dktX7_tide_0 : List UInt8 := dkwX7_tide_0 ++ []
theorem dksX7_tide_0 : cX7_tide.data.toList.drop 0 = dktX7_tide_0 := by decide +kernel
theorem dX7_tide_0 : decode cX7_tide 0 = .ok (.aload_n 0, 1) := dk_42 (dk_at dksX7_tide_0 0 rfl rfl)
theorem dX7_tide_1 : decode cX7_tide 1 = .ok (.getfield 83, 3) := dk_180 0 83 (dk_at dksX7_tide_0 1 rfl rfl)
theorem dX7_tide_4 : decode cX7_tide 4 = .ok (.sipush 999, 3) := dk_17 3 231 (dk_at dksX7_tide_0 4 rfl rfl)
theorem dX7_tide_7 : decode cX7_tide 7 = .ok (.if_icmp .ne 8, 3) := dk_160 0 8 (dk_at dksX7_tide_0 7 rfl rfl)
theorem dX7_tide_10 : decode cX7_tide 10 = .ok (.bipush (-3), 2) := dk_16 253 (dk_at dksX7_tide_0 10 rfl rfl)
theorem dX7_tide_12 : decode cX7_tide 12 = .ok (.goto 7, 3) := dk_167 0 7 (dk_at dksX7_tide_0 12 rfl rfl)
theorem dX7_tide_15 : decode cX7_tide 15 = .ok (.aload_n 0, 1) := dk_42 (dk_at dksX7_tide_0 15 rfl rfl)
theorem dX7_tide_16 : decode cX7_tide 16 = .ok (.invokevirtual 189, 3) := dk_182 0 189 (dk_at dksX7_tide_0 16 rfl rfl)
theorem dX7_tide_19 : decode cX7_tide 19 = .ok (.ireturn, 1) := dk_172 (dk_at dksX7_tide_0 19 rfl rfl)
abbrev cX7_tideOf : ByteArray := prog_19_method_40_code
def yX7_tideOf : MethodName := ⟨RX7, "tideOf", "()I"⟩
def dkwX7_tideOf_4 : List UInt8 := [181, 0, 76, 42, 180, 0, 16, 6, 28, 104, 92, 46, 4, 27, 120, 128, 79, 27, 172]
abbrev dktX7_tideOf_4 : List UInt8 := dkwX7_tideOf_4 ++ []
def dkwX7_tideOf_3 : List UInt8 := [29, 167, 0, 4, 28, 61, 132, 3, 1, 167, 255, 214, 42, 89, 180, 0, 76, 4, 27, 120, 2, 130, 126]
abbrev dktX7_tideOf_3 : List UInt8 := dkwX7_tideOf_3 ++ dktX7_tideOf_4
def dkwX7_tideOf_2 : List UInt8 := [180, 0, 16, 6, 29, 104, 46, 184, 0, 79, 42, 180, 0, 16, 6, 28, 104, 46, 184, 0, 79, 162, 0, 7]
abbrev dktX7_tideOf_2 : List UInt8 := dkwX7_tideOf_2 ++ dktX7_tideOf_3
def dkwX7_tideOf_1 : List UInt8 := [153, 0, 8, 27, 2, 160, 0, 5, 2, 172, 3, 61, 4, 62, 29, 42, 180, 0, 69, 162, 0, 40, 42]
abbrev dktX7_tideOf_1 : List UInt8 := dkwX7_tideOf_1 ++ dktX7_tideOf_2
def dkwX7_tideOf_0 : List UInt8 := [42, 89, 180, 0, 83, 4, 96, 181, 0, 83, 42, 180, 0, 76, 3, 184, 0, 171, 60, 42, 180, 0, 69]
abbrev dktX7_tideOf_0 : List UInt8 := dkwX7_tideOf_0 ++ dktX7_tideOf_1
theorem dksX7_tideOf_0 : cX7_tideOf.data.toList.drop 0 = dktX7_tideOf_0 := by decide +kernel
theorem dksX7_tideOf_1 : cX7_tideOf.data.toList.drop 23 = dktX7_tideOf_1 := dk_seg dksX7_tideOf_0 23 rfl rfl
theorem dksX7_tideOf_2 : cX7_tideOf.data.toList.drop 46 = dktX7_tideOf_2 := dk_seg dksX7_tideOf_1 23 rfl rfl
theorem dksX7_tideOf_3 : cX7_tideOf.data.toList.drop 70 = dktX7_tideOf_3 := dk_seg dksX7_tideOf_2 24 rfl rfl
theorem dksX7_tideOf_4 : cX7_tideOf.data.toList.drop 93 = dktX7_tideOf_4 := dk_seg dksX7_tideOf_3 23 rfl rfl
theorem dX7_tideOf_0 : decode cX7_tideOf 0 = .ok (.aload_n 0, 1) := dk_42 (dk_at dksX7_tideOf_0 0 rfl rfl)
theorem dX7_tideOf_1 : decode cX7_tideOf 1 = .ok (.dup, 1) := dk_89 (dk_at dksX7_tideOf_0 1 rfl rfl)
theorem dX7_tideOf_2 : decode cX7_tideOf 2 = .ok (.getfield 83, 3) := dk_180 0 83 (dk_at dksX7_tideOf_0 2 rfl rfl)
theorem dX7_tideOf_5 : decode cX7_tideOf 5 = .ok (.iconst 1, 1) := dk_4 (dk_at dksX7_tideOf_0 5 rfl rfl)
theorem dX7_tideOf_6 : decode cX7_tideOf 6 = .ok (.iadd, 1) := dk_96 (dk_at dksX7_tideOf_0 6 rfl rfl)
theorem dX7_tideOf_7 : decode cX7_tideOf 7 = .ok (.putfield 83, 3) := dk_181 0 83 (dk_at dksX7_tideOf_0 7 rfl rfl)
theorem dX7_tideOf_10 : decode cX7_tideOf 10 = .ok (.aload_n 0, 1) := dk_42 (dk_at dksX7_tideOf_0 10 rfl rfl)
theorem dX7_tideOf_11 : decode cX7_tideOf 11 = .ok (.getfield 76, 3) := dk_180 0 76 (dk_at dksX7_tideOf_0 11 rfl rfl)
theorem dX7_tideOf_14 : decode cX7_tideOf 14 = .ok (.iconst 0, 1) := dk_3 (dk_at dksX7_tideOf_0 14 rfl rfl)
theorem dX7_tideOf_15 : decode cX7_tideOf 15 = .ok (.invokestatic 171, 3) := dk_184 0 171 (dk_at dksX7_tideOf_0 15 rfl rfl)
theorem dX7_tideOf_18 : decode cX7_tideOf 18 = .ok (.istore_n 1, 1) := dk_60 (dk_at dksX7_tideOf_0 18 rfl rfl)
theorem dX7_tideOf_19 : decode cX7_tideOf 19 = .ok (.aload_n 0, 1) := dk_42 (dk_at dksX7_tideOf_0 19 rfl rfl)
theorem dX7_tideOf_20 : decode cX7_tideOf 20 = .ok (.getfield 69, 3) := dk_180 0 69 (dk_at dksX7_tideOf_0 20 rfl rfl)
theorem dX7_tideOf_23 : decode cX7_tideOf 23 = .ok (.ifCond .eq 8, 3) := dk_153 0 8 (dk_at dksX7_tideOf_1 0 rfl rfl)
theorem dX7_tideOf_26 : decode cX7_tideOf 26 = .ok (.iload_n 1, 1) := dk_27 (dk_at dksX7_tideOf_1 3 rfl rfl)
theorem dX7_tideOf_27 : decode cX7_tideOf 27 = .ok (.iconst (-1), 1) := dk_2 (dk_at dksX7_tideOf_1 4 rfl rfl)
theorem dX7_tideOf_28 : decode cX7_tideOf 28 = .ok (.if_icmp .ne 5, 3) := dk_160 0 5 (dk_at dksX7_tideOf_1 5 rfl rfl)
theorem dX7_tideOf_31 : decode cX7_tideOf 31 = .ok (.iconst (-1), 1) := dk_2 (dk_at dksX7_tideOf_1 8 rfl rfl)
theorem dX7_tideOf_32 : decode cX7_tideOf 32 = .ok (.ireturn, 1) := dk_172 (dk_at dksX7_tideOf_1 9 rfl rfl)
theorem dX7_tideOf_33 : decode cX7_tideOf 33 = .ok (.iconst 0, 1) := dk_3 (dk_at dksX7_tideOf_1 10 rfl rfl)
theorem dX7_tideOf_34 : decode cX7_tideOf 34 = .ok (.istore_n 2, 1) := dk_61 (dk_at dksX7_tideOf_1 11 rfl rfl)
theorem dX7_tideOf_35 : decode cX7_tideOf 35 = .ok (.iconst 1, 1) := dk_4 (dk_at dksX7_tideOf_1 12 rfl rfl)
theorem dX7_tideOf_36 : decode cX7_tideOf 36 = .ok (.istore_n 3, 1) := dk_62 (dk_at dksX7_tideOf_1 13 rfl rfl)
theorem dX7_tideOf_37 : decode cX7_tideOf 37 = .ok (.iload_n 3, 1) := dk_29 (dk_at dksX7_tideOf_1 14 rfl rfl)
theorem dX7_tideOf_38 : decode cX7_tideOf 38 = .ok (.aload_n 0, 1) := dk_42 (dk_at dksX7_tideOf_1 15 rfl rfl)
theorem dX7_tideOf_39 : decode cX7_tideOf 39 = .ok (.getfield 69, 3) := dk_180 0 69 (dk_at dksX7_tideOf_1 16 rfl rfl)
theorem dX7_tideOf_42 : decode cX7_tideOf 42 = .ok (.if_icmp .ge 40, 3) := dk_162 0 40 (dk_at dksX7_tideOf_1 19 rfl rfl)
theorem dX7_tideOf_45 : decode cX7_tideOf 45 = .ok (.aload_n 0, 1) := dk_42 (dk_at dksX7_tideOf_1 22 rfl rfl)
theorem dX7_tideOf_46 : decode cX7_tideOf 46 = .ok (.getfield 16, 3) := dk_180 0 16 (dk_at dksX7_tideOf_2 0 rfl rfl)
theorem dX7_tideOf_49 : decode cX7_tideOf 49 = .ok (.iconst 3, 1) := dk_6 (dk_at dksX7_tideOf_2 3 rfl rfl)
theorem dX7_tideOf_50 : decode cX7_tideOf 50 = .ok (.iload_n 3, 1) := dk_29 (dk_at dksX7_tideOf_2 4 rfl rfl)
theorem dX7_tideOf_51 : decode cX7_tideOf 51 = .ok (.imul, 1) := dk_104 (dk_at dksX7_tideOf_2 5 rfl rfl)
theorem dX7_tideOf_52 : decode cX7_tideOf 52 = .ok (.iaload, 1) := dk_46 (dk_at dksX7_tideOf_2 6 rfl rfl)
theorem dX7_tideOf_53 : decode cX7_tideOf 53 = .ok (.invokestatic 79, 3) := dk_184 0 79 (dk_at dksX7_tideOf_2 7 rfl rfl)
theorem dX7_tideOf_56 : decode cX7_tideOf 56 = .ok (.aload_n 0, 1) := dk_42 (dk_at dksX7_tideOf_2 10 rfl rfl)
theorem dX7_tideOf_57 : decode cX7_tideOf 57 = .ok (.getfield 16, 3) := dk_180 0 16 (dk_at dksX7_tideOf_2 11 rfl rfl)
theorem dX7_tideOf_60 : decode cX7_tideOf 60 = .ok (.iconst 3, 1) := dk_6 (dk_at dksX7_tideOf_2 14 rfl rfl)
theorem dX7_tideOf_61 : decode cX7_tideOf 61 = .ok (.iload_n 2, 1) := dk_28 (dk_at dksX7_tideOf_2 15 rfl rfl)
theorem dX7_tideOf_62 : decode cX7_tideOf 62 = .ok (.imul, 1) := dk_104 (dk_at dksX7_tideOf_2 16 rfl rfl)
theorem dX7_tideOf_63 : decode cX7_tideOf 63 = .ok (.iaload, 1) := dk_46 (dk_at dksX7_tideOf_2 17 rfl rfl)
theorem dX7_tideOf_64 : decode cX7_tideOf 64 = .ok (.invokestatic 79, 3) := dk_184 0 79 (dk_at dksX7_tideOf_2 18 rfl rfl)
theorem dX7_tideOf_67 : decode cX7_tideOf 67 = .ok (.if_icmp .ge 7, 3) := dk_162 0 7 (dk_at dksX7_tideOf_2 21 rfl rfl)
theorem dX7_tideOf_70 : decode cX7_tideOf 70 = .ok (.iload_n 3, 1) := dk_29 (dk_at dksX7_tideOf_3 0 rfl rfl)
theorem dX7_tideOf_71 : decode cX7_tideOf 71 = .ok (.goto 4, 3) := dk_167 0 4 (dk_at dksX7_tideOf_3 1 rfl rfl)
theorem dX7_tideOf_74 : decode cX7_tideOf 74 = .ok (.iload_n 2, 1) := dk_28 (dk_at dksX7_tideOf_3 4 rfl rfl)
theorem dX7_tideOf_75 : decode cX7_tideOf 75 = .ok (.istore_n 2, 1) := dk_61 (dk_at dksX7_tideOf_3 5 rfl rfl)
theorem dX7_tideOf_76 : decode cX7_tideOf 76 = .ok (.iinc 3 1, 3) := dk_132 3 1 (dk_at dksX7_tideOf_3 6 rfl rfl)
theorem dX7_tideOf_79 : decode cX7_tideOf 79 = .ok (.goto (-42), 3) := dk_167 255 214 (dk_at dksX7_tideOf_3 9 rfl rfl)
theorem dX7_tideOf_82 : decode cX7_tideOf 82 = .ok (.aload_n 0, 1) := dk_42 (dk_at dksX7_tideOf_3 12 rfl rfl)
theorem dX7_tideOf_83 : decode cX7_tideOf 83 = .ok (.dup, 1) := dk_89 (dk_at dksX7_tideOf_3 13 rfl rfl)
theorem dX7_tideOf_84 : decode cX7_tideOf 84 = .ok (.getfield 76, 3) := dk_180 0 76 (dk_at dksX7_tideOf_3 14 rfl rfl)
theorem dX7_tideOf_87 : decode cX7_tideOf 87 = .ok (.iconst 1, 1) := dk_4 (dk_at dksX7_tideOf_3 17 rfl rfl)
theorem dX7_tideOf_88 : decode cX7_tideOf 88 = .ok (.iload_n 1, 1) := dk_27 (dk_at dksX7_tideOf_3 18 rfl rfl)
theorem dX7_tideOf_89 : decode cX7_tideOf 89 = .ok (.ishl, 1) := dk_120 (dk_at dksX7_tideOf_3 19 rfl rfl)
theorem dX7_tideOf_90 : decode cX7_tideOf 90 = .ok (.iconst (-1), 1) := dk_2 (dk_at dksX7_tideOf_3 20 rfl rfl)
theorem dX7_tideOf_91 : decode cX7_tideOf 91 = .ok (.ixor, 1) := dk_130 (dk_at dksX7_tideOf_3 21 rfl rfl)
theorem dX7_tideOf_92 : decode cX7_tideOf 92 = .ok (.iand, 1) := dk_126 (dk_at dksX7_tideOf_3 22 rfl rfl)
theorem dX7_tideOf_93 : decode cX7_tideOf 93 = .ok (.putfield 76, 3) := dk_181 0 76 (dk_at dksX7_tideOf_4 0 rfl rfl)
theorem dX7_tideOf_96 : decode cX7_tideOf 96 = .ok (.aload_n 0, 1) := dk_42 (dk_at dksX7_tideOf_4 3 rfl rfl)
theorem dX7_tideOf_97 : decode cX7_tideOf 97 = .ok (.getfield 16, 3) := dk_180 0 16 (dk_at dksX7_tideOf_4 4 rfl rfl)
theorem dX7_tideOf_100 : decode cX7_tideOf 100 = .ok (.iconst 3, 1) := dk_6 (dk_at dksX7_tideOf_4 7 rfl rfl)
theorem dX7_tideOf_101 : decode cX7_tideOf 101 = .ok (.iload_n 2, 1) := dk_28 (dk_at dksX7_tideOf_4 8 rfl rfl)
theorem dX7_tideOf_102 : decode cX7_tideOf 102 = .ok (.imul, 1) := dk_104 (dk_at dksX7_tideOf_4 9 rfl rfl)
theorem dX7_tideOf_103 : decode cX7_tideOf 103 = .ok (.dup2, 1) := dk_92 (dk_at dksX7_tideOf_4 10 rfl rfl)
theorem dX7_tideOf_104 : decode cX7_tideOf 104 = .ok (.iaload, 1) := dk_46 (dk_at dksX7_tideOf_4 11 rfl rfl)
theorem dX7_tideOf_105 : decode cX7_tideOf 105 = .ok (.iconst 1, 1) := dk_4 (dk_at dksX7_tideOf_4 12 rfl rfl)
theorem dX7_tideOf_106 : decode cX7_tideOf 106 = .ok (.iload_n 1, 1) := dk_27 (dk_at dksX7_tideOf_4 13 rfl rfl)
theorem dX7_tideOf_107 : decode cX7_tideOf 107 = .ok (.ishl, 1) := dk_120 (dk_at dksX7_tideOf_4 14 rfl rfl)
theorem dX7_tideOf_108 : decode cX7_tideOf 108 = .ok (.ior, 1) := dk_128 (dk_at dksX7_tideOf_4 15 rfl rfl)
theorem dX7_tideOf_109 : decode cX7_tideOf 109 = .ok (.iastore, 1) := dk_79 (dk_at dksX7_tideOf_4 16 rfl rfl)
theorem dX7_tideOf_110 : decode cX7_tideOf 110 = .ok (.iload_n 1, 1) := dk_27 (dk_at dksX7_tideOf_4 17 rfl rfl)
theorem dX7_tideOf_111 : decode cX7_tideOf 111 = .ok (.ireturn, 1) := dk_172 (dk_at dksX7_tideOf_4 18 rfl rfl)
abbrev cX7_talk : ByteArray := prog_19_method_42_code
def yX7_talk : MethodName := ⟨RX7, "talk", "(II)I"⟩
def dkwX7_talk_6 : List UInt8 := [21, 4, 21, 5, 2, 130, 126, 172]
abbrev dktX7_talk_6 : List UInt8 := dkwX7_talk_6 ++ []
def dkwX7_talk_5 : List UInt8 := [160, 0, 8, 21, 4, 167, 0, 25, 28, 5, 160, 0, 13, 18, 92, 21, 4, 2, 130, 126, 167, 0, 10]
abbrev dktX7_talk_5 : List UInt8 := dkwX7_talk_5 ++ dktX7_talk_6
def dkwX7_talk_4 : List UInt8 := [6, 21, 6, 104, 46, 128, 54, 4, 132, 6, 1, 167, 255, 191, 28, 154, 0, 7, 29, 167, 0, 35, 28, 4]
abbrev dktX7_talk_4 : List UInt8 := dkwX7_talk_4 ++ dktX7_talk_5
def dkwX7_talk_3 : List UInt8 := [62, 21, 5, 21, 4, 42, 180, 0, 16, 6, 21, 6, 104, 46, 126, 128, 54, 5, 21, 4, 42, 180, 0, 16]
abbrev dktX7_talk_3 : List UInt8 := dkwX7_talk_3 ++ dktX7_talk_4
def dkwX7_talk_2 : List UInt8 := [162, 0, 62, 27, 21, 6, 122, 4, 126, 4, 160, 0, 46, 29, 42, 180, 0, 16, 6, 21, 6, 104, 46, 126]
abbrev dktX7_talk_2 : List UInt8 := dkwX7_talk_2 ++ dktX7_talk_3
def dkwX7_talk_1 : List UInt8 := [154, 0, 6, 16, 254, 172, 18, 92, 62, 3, 54, 4, 3, 54, 5, 3, 54, 6, 21, 6, 42, 180, 0, 69]
abbrev dktX7_talk_1 : List UInt8 := dkwX7_talk_1 ++ dktX7_talk_2
def dkwX7_talk_0 : List UInt8 := [27, 3, 4, 42, 180, 0, 69, 120, 4, 100, 184, 0, 72, 153, 0, 12, 28, 3, 6, 184, 0, 72]
abbrev dktX7_talk_0 : List UInt8 := dkwX7_talk_0 ++ dktX7_talk_1
theorem dksX7_talk_0 : cX7_talk.data.toList.drop 0 = dktX7_talk_0 := by decide +kernel
theorem dksX7_talk_1 : cX7_talk.data.toList.drop 22 = dktX7_talk_1 := dk_seg dksX7_talk_0 22 rfl rfl
theorem dksX7_talk_2 : cX7_talk.data.toList.drop 46 = dktX7_talk_2 := dk_seg dksX7_talk_1 24 rfl rfl
theorem dksX7_talk_3 : cX7_talk.data.toList.drop 70 = dktX7_talk_3 := dk_seg dksX7_talk_2 24 rfl rfl
theorem dksX7_talk_4 : cX7_talk.data.toList.drop 94 = dktX7_talk_4 := dk_seg dksX7_talk_3 24 rfl rfl
theorem dksX7_talk_5 : cX7_talk.data.toList.drop 118 = dktX7_talk_5 := dk_seg dksX7_talk_4 24 rfl rfl
theorem dksX7_talk_6 : cX7_talk.data.toList.drop 141 = dktX7_talk_6 := dk_seg dksX7_talk_5 23 rfl rfl
theorem dX7_talk_0 : decode cX7_talk 0 = .ok (.iload_n 1, 1) := dk_27 (dk_at dksX7_talk_0 0 rfl rfl)
theorem dX7_talk_1 : decode cX7_talk 1 = .ok (.iconst 0, 1) := dk_3 (dk_at dksX7_talk_0 1 rfl rfl)
theorem dX7_talk_2 : decode cX7_talk 2 = .ok (.iconst 1, 1) := dk_4 (dk_at dksX7_talk_0 2 rfl rfl)
theorem dX7_talk_3 : decode cX7_talk 3 = .ok (.aload_n 0, 1) := dk_42 (dk_at dksX7_talk_0 3 rfl rfl)
theorem dX7_talk_4 : decode cX7_talk 4 = .ok (.getfield 69, 3) := dk_180 0 69 (dk_at dksX7_talk_0 4 rfl rfl)
theorem dX7_talk_7 : decode cX7_talk 7 = .ok (.ishl, 1) := dk_120 (dk_at dksX7_talk_0 7 rfl rfl)
theorem dX7_talk_8 : decode cX7_talk 8 = .ok (.iconst 1, 1) := dk_4 (dk_at dksX7_talk_0 8 rfl rfl)
theorem dX7_talk_9 : decode cX7_talk 9 = .ok (.isub, 1) := dk_100 (dk_at dksX7_talk_0 9 rfl rfl)
theorem dX7_talk_10 : decode cX7_talk 10 = .ok (.invokestatic 72, 3) := dk_184 0 72 (dk_at dksX7_talk_0 10 rfl rfl)
theorem dX7_talk_13 : decode cX7_talk 13 = .ok (.ifCond .eq 12, 3) := dk_153 0 12 (dk_at dksX7_talk_0 13 rfl rfl)
theorem dX7_talk_16 : decode cX7_talk 16 = .ok (.iload_n 2, 1) := dk_28 (dk_at dksX7_talk_0 16 rfl rfl)
theorem dX7_talk_17 : decode cX7_talk 17 = .ok (.iconst 0, 1) := dk_3 (dk_at dksX7_talk_0 17 rfl rfl)
theorem dX7_talk_18 : decode cX7_talk 18 = .ok (.iconst 3, 1) := dk_6 (dk_at dksX7_talk_0 18 rfl rfl)
theorem dX7_talk_19 : decode cX7_talk 19 = .ok (.invokestatic 72, 3) := dk_184 0 72 (dk_at dksX7_talk_0 19 rfl rfl)
theorem dX7_talk_22 : decode cX7_talk 22 = .ok (.ifCond .ne 6, 3) := dk_154 0 6 (dk_at dksX7_talk_1 0 rfl rfl)
theorem dX7_talk_25 : decode cX7_talk 25 = .ok (.bipush (-2), 2) := dk_16 254 (dk_at dksX7_talk_1 3 rfl rfl)
theorem dX7_talk_27 : decode cX7_talk 27 = .ok (.ireturn, 1) := dk_172 (dk_at dksX7_talk_1 5 rfl rfl)
theorem dX7_talk_28 : decode cX7_talk 28 = .ok (.ldc 92, 2) := dk_18 92 (dk_at dksX7_talk_1 6 rfl rfl)
theorem dX7_talk_30 : decode cX7_talk 30 = .ok (.istore_n 3, 1) := dk_62 (dk_at dksX7_talk_1 8 rfl rfl)
theorem dX7_talk_31 : decode cX7_talk 31 = .ok (.iconst 0, 1) := dk_3 (dk_at dksX7_talk_1 9 rfl rfl)
theorem dX7_talk_32 : decode cX7_talk 32 = .ok (.istore 4, 2) := dk_54 4 (dk_at dksX7_talk_1 10 rfl rfl)
theorem dX7_talk_34 : decode cX7_talk 34 = .ok (.iconst 0, 1) := dk_3 (dk_at dksX7_talk_1 12 rfl rfl)
theorem dX7_talk_35 : decode cX7_talk 35 = .ok (.istore 5, 2) := dk_54 5 (dk_at dksX7_talk_1 13 rfl rfl)
theorem dX7_talk_37 : decode cX7_talk 37 = .ok (.iconst 0, 1) := dk_3 (dk_at dksX7_talk_1 15 rfl rfl)
theorem dX7_talk_38 : decode cX7_talk 38 = .ok (.istore 6, 2) := dk_54 6 (dk_at dksX7_talk_1 16 rfl rfl)
theorem dX7_talk_40 : decode cX7_talk 40 = .ok (.iload 6, 2) := dk_21 6 (dk_at dksX7_talk_1 18 rfl rfl)
theorem dX7_talk_42 : decode cX7_talk 42 = .ok (.aload_n 0, 1) := dk_42 (dk_at dksX7_talk_1 20 rfl rfl)
theorem dX7_talk_43 : decode cX7_talk 43 = .ok (.getfield 69, 3) := dk_180 0 69 (dk_at dksX7_talk_1 21 rfl rfl)
theorem dX7_talk_46 : decode cX7_talk 46 = .ok (.if_icmp .ge 62, 3) := dk_162 0 62 (dk_at dksX7_talk_2 0 rfl rfl)
theorem dX7_talk_49 : decode cX7_talk 49 = .ok (.iload_n 1, 1) := dk_27 (dk_at dksX7_talk_2 3 rfl rfl)
theorem dX7_talk_50 : decode cX7_talk 50 = .ok (.iload 6, 2) := dk_21 6 (dk_at dksX7_talk_2 4 rfl rfl)
theorem dX7_talk_52 : decode cX7_talk 52 = .ok (.ishr, 1) := dk_122 (dk_at dksX7_talk_2 6 rfl rfl)
theorem dX7_talk_53 : decode cX7_talk 53 = .ok (.iconst 1, 1) := dk_4 (dk_at dksX7_talk_2 7 rfl rfl)
theorem dX7_talk_54 : decode cX7_talk 54 = .ok (.iand, 1) := dk_126 (dk_at dksX7_talk_2 8 rfl rfl)
theorem dX7_talk_55 : decode cX7_talk 55 = .ok (.iconst 1, 1) := dk_4 (dk_at dksX7_talk_2 9 rfl rfl)
theorem dX7_talk_56 : decode cX7_talk 56 = .ok (.if_icmp .ne 46, 3) := dk_160 0 46 (dk_at dksX7_talk_2 10 rfl rfl)
theorem dX7_talk_59 : decode cX7_talk 59 = .ok (.iload_n 3, 1) := dk_29 (dk_at dksX7_talk_2 13 rfl rfl)
theorem dX7_talk_60 : decode cX7_talk 60 = .ok (.aload_n 0, 1) := dk_42 (dk_at dksX7_talk_2 14 rfl rfl)
theorem dX7_talk_61 : decode cX7_talk 61 = .ok (.getfield 16, 3) := dk_180 0 16 (dk_at dksX7_talk_2 15 rfl rfl)
theorem dX7_talk_64 : decode cX7_talk 64 = .ok (.iconst 3, 1) := dk_6 (dk_at dksX7_talk_2 18 rfl rfl)
theorem dX7_talk_65 : decode cX7_talk 65 = .ok (.iload 6, 2) := dk_21 6 (dk_at dksX7_talk_2 19 rfl rfl)
theorem dX7_talk_67 : decode cX7_talk 67 = .ok (.imul, 1) := dk_104 (dk_at dksX7_talk_2 21 rfl rfl)
theorem dX7_talk_68 : decode cX7_talk 68 = .ok (.iaload, 1) := dk_46 (dk_at dksX7_talk_2 22 rfl rfl)
theorem dX7_talk_69 : decode cX7_talk 69 = .ok (.iand, 1) := dk_126 (dk_at dksX7_talk_2 23 rfl rfl)
theorem dX7_talk_70 : decode cX7_talk 70 = .ok (.istore_n 3, 1) := dk_62 (dk_at dksX7_talk_3 0 rfl rfl)
theorem dX7_talk_71 : decode cX7_talk 71 = .ok (.iload 5, 2) := dk_21 5 (dk_at dksX7_talk_3 1 rfl rfl)
theorem dX7_talk_73 : decode cX7_talk 73 = .ok (.iload 4, 2) := dk_21 4 (dk_at dksX7_talk_3 3 rfl rfl)
theorem dX7_talk_75 : decode cX7_talk 75 = .ok (.aload_n 0, 1) := dk_42 (dk_at dksX7_talk_3 5 rfl rfl)
theorem dX7_talk_76 : decode cX7_talk 76 = .ok (.getfield 16, 3) := dk_180 0 16 (dk_at dksX7_talk_3 6 rfl rfl)
theorem dX7_talk_79 : decode cX7_talk 79 = .ok (.iconst 3, 1) := dk_6 (dk_at dksX7_talk_3 9 rfl rfl)
theorem dX7_talk_80 : decode cX7_talk 80 = .ok (.iload 6, 2) := dk_21 6 (dk_at dksX7_talk_3 10 rfl rfl)
theorem dX7_talk_82 : decode cX7_talk 82 = .ok (.imul, 1) := dk_104 (dk_at dksX7_talk_3 12 rfl rfl)
theorem dX7_talk_83 : decode cX7_talk 83 = .ok (.iaload, 1) := dk_46 (dk_at dksX7_talk_3 13 rfl rfl)
theorem dX7_talk_84 : decode cX7_talk 84 = .ok (.iand, 1) := dk_126 (dk_at dksX7_talk_3 14 rfl rfl)
theorem dX7_talk_85 : decode cX7_talk 85 = .ok (.ior, 1) := dk_128 (dk_at dksX7_talk_3 15 rfl rfl)
theorem dX7_talk_86 : decode cX7_talk 86 = .ok (.istore 5, 2) := dk_54 5 (dk_at dksX7_talk_3 16 rfl rfl)
theorem dX7_talk_88 : decode cX7_talk 88 = .ok (.iload 4, 2) := dk_21 4 (dk_at dksX7_talk_3 18 rfl rfl)
theorem dX7_talk_90 : decode cX7_talk 90 = .ok (.aload_n 0, 1) := dk_42 (dk_at dksX7_talk_3 20 rfl rfl)
theorem dX7_talk_91 : decode cX7_talk 91 = .ok (.getfield 16, 3) := dk_180 0 16 (dk_at dksX7_talk_3 21 rfl rfl)
theorem dX7_talk_94 : decode cX7_talk 94 = .ok (.iconst 3, 1) := dk_6 (dk_at dksX7_talk_4 0 rfl rfl)
theorem dX7_talk_95 : decode cX7_talk 95 = .ok (.iload 6, 2) := dk_21 6 (dk_at dksX7_talk_4 1 rfl rfl)
theorem dX7_talk_97 : decode cX7_talk 97 = .ok (.imul, 1) := dk_104 (dk_at dksX7_talk_4 3 rfl rfl)
theorem dX7_talk_98 : decode cX7_talk 98 = .ok (.iaload, 1) := dk_46 (dk_at dksX7_talk_4 4 rfl rfl)
theorem dX7_talk_99 : decode cX7_talk 99 = .ok (.ior, 1) := dk_128 (dk_at dksX7_talk_4 5 rfl rfl)
theorem dX7_talk_100 : decode cX7_talk 100 = .ok (.istore 4, 2) := dk_54 4 (dk_at dksX7_talk_4 6 rfl rfl)
theorem dX7_talk_102 : decode cX7_talk 102 = .ok (.iinc 6 1, 3) := dk_132 6 1 (dk_at dksX7_talk_4 8 rfl rfl)
theorem dX7_talk_105 : decode cX7_talk 105 = .ok (.goto (-65), 3) := dk_167 255 191 (dk_at dksX7_talk_4 11 rfl rfl)
theorem dX7_talk_108 : decode cX7_talk 108 = .ok (.iload_n 2, 1) := dk_28 (dk_at dksX7_talk_4 14 rfl rfl)
theorem dX7_talk_109 : decode cX7_talk 109 = .ok (.ifCond .ne 7, 3) := dk_154 0 7 (dk_at dksX7_talk_4 15 rfl rfl)
theorem dX7_talk_112 : decode cX7_talk 112 = .ok (.iload_n 3, 1) := dk_29 (dk_at dksX7_talk_4 18 rfl rfl)
theorem dX7_talk_113 : decode cX7_talk 113 = .ok (.goto 35, 3) := dk_167 0 35 (dk_at dksX7_talk_4 19 rfl rfl)
theorem dX7_talk_116 : decode cX7_talk 116 = .ok (.iload_n 2, 1) := dk_28 (dk_at dksX7_talk_4 22 rfl rfl)
theorem dX7_talk_117 : decode cX7_talk 117 = .ok (.iconst 1, 1) := dk_4 (dk_at dksX7_talk_4 23 rfl rfl)
theorem dX7_talk_118 : decode cX7_talk 118 = .ok (.if_icmp .ne 8, 3) := dk_160 0 8 (dk_at dksX7_talk_5 0 rfl rfl)
theorem dX7_talk_121 : decode cX7_talk 121 = .ok (.iload 4, 2) := dk_21 4 (dk_at dksX7_talk_5 3 rfl rfl)
theorem dX7_talk_123 : decode cX7_talk 123 = .ok (.goto 25, 3) := dk_167 0 25 (dk_at dksX7_talk_5 5 rfl rfl)
theorem dX7_talk_126 : decode cX7_talk 126 = .ok (.iload_n 2, 1) := dk_28 (dk_at dksX7_talk_5 8 rfl rfl)
theorem dX7_talk_127 : decode cX7_talk 127 = .ok (.iconst 2, 1) := dk_5 (dk_at dksX7_talk_5 9 rfl rfl)
theorem dX7_talk_128 : decode cX7_talk 128 = .ok (.if_icmp .ne 13, 3) := dk_160 0 13 (dk_at dksX7_talk_5 10 rfl rfl)
theorem dX7_talk_131 : decode cX7_talk 131 = .ok (.ldc 92, 2) := dk_18 92 (dk_at dksX7_talk_5 13 rfl rfl)
theorem dX7_talk_133 : decode cX7_talk 133 = .ok (.iload 4, 2) := dk_21 4 (dk_at dksX7_talk_5 15 rfl rfl)
theorem dX7_talk_135 : decode cX7_talk 135 = .ok (.iconst (-1), 1) := dk_2 (dk_at dksX7_talk_5 17 rfl rfl)
theorem dX7_talk_136 : decode cX7_talk 136 = .ok (.ixor, 1) := dk_130 (dk_at dksX7_talk_5 18 rfl rfl)
theorem dX7_talk_137 : decode cX7_talk 137 = .ok (.iand, 1) := dk_126 (dk_at dksX7_talk_5 19 rfl rfl)
theorem dX7_talk_138 : decode cX7_talk 138 = .ok (.goto 10, 3) := dk_167 0 10 (dk_at dksX7_talk_5 20 rfl rfl)
theorem dX7_talk_141 : decode cX7_talk 141 = .ok (.iload 4, 2) := dk_21 4 (dk_at dksX7_talk_6 0 rfl rfl)
theorem dX7_talk_143 : decode cX7_talk 143 = .ok (.iload 5, 2) := dk_21 5 (dk_at dksX7_talk_6 2 rfl rfl)
theorem dX7_talk_145 : decode cX7_talk 145 = .ok (.iconst (-1), 1) := dk_2 (dk_at dksX7_talk_6 4 rfl rfl)
theorem dX7_talk_146 : decode cX7_talk 146 = .ok (.ixor, 1) := dk_130 (dk_at dksX7_talk_6 5 rfl rfl)
theorem dX7_talk_147 : decode cX7_talk 147 = .ok (.iand, 1) := dk_126 (dk_at dksX7_talk_6 6 rfl rfl)
theorem dX7_talk_148 : decode cX7_talk 148 = .ok (.ireturn, 1) := dk_172 (dk_at dksX7_talk_6 7 rfl rfl)
abbrev cX7_season : ByteArray := prog_19_method_48_code
def yX7_season : MethodName := ⟨RX7, "season", "(III)I"⟩
def dkwX7_season_6 : List UInt8 := [54, 5, 42, 182, 0, 208, 21, 5, 172]
abbrev dktX7_season_6 : List UInt8 := dkwX7_season_6 ++ []
def dkwX7_season_5 : List UInt8 := [167, 0, 26, 42, 180, 0, 16, 6, 28, 104, 4, 96, 46, 42, 180, 0, 16, 6, 28, 104, 46, 2, 130, 126]
abbrev dktX7_season_5 : List UInt8 := dkwX7_season_5 ++ dktX7_season_6
def dkwX7_season_4 : List UInt8 := [96, 46, 54, 5, 167, 0, 44, 42, 180, 0, 76, 54, 5, 167, 0, 35, 42, 180, 0, 195, 54, 5]
abbrev dktX7_season_4 : List UInt8 := dkwX7_season_4 ++ dktX7_season_5
def dkwX7_season_3 : List UInt8 := [42, 180, 0, 16, 6, 28, 104, 46, 184, 0, 79, 54, 5, 167, 0, 59, 42, 180, 0, 16, 6, 28, 104, 5]
abbrev dktX7_season_3 : List UInt8 := dkwX7_season_3 ++ dktX7_season_4
def dkwX7_season_2 : List UInt8 := [170, 0, 0, 0, 0, 79, 0, 0, 0, 0, 0, 0, 0, 3, 0, 0, 0, 30, 0, 0, 0, 46, 0, 0, 0, 61, 0, 0, 0, 70]
abbrev dktX7_season_2 : List UInt8 := dkwX7_season_2 ++ dktX7_season_3
def dkwX7_season_1 : List UInt8 := [154, 0, 6, 16, 249, 172, 42, 182, 0, 201, 42, 27, 28, 182, 0, 204, 3, 54, 5, 29]
abbrev dktX7_season_1 : List UInt8 := dkwX7_season_1 ++ dktX7_season_2
def dkwX7_season_0 : List UInt8 := [42, 27, 28, 182, 0, 198, 54, 4, 21, 4, 153, 0, 6, 21, 4, 172, 29, 3, 7, 184, 0, 72]
abbrev dktX7_season_0 : List UInt8 := dkwX7_season_0 ++ dktX7_season_1
theorem dksX7_season_0 : cX7_season.data.toList.drop 0 = dktX7_season_0 := by decide +kernel
theorem dksX7_season_1 : cX7_season.data.toList.drop 22 = dktX7_season_1 := dk_seg dksX7_season_0 22 rfl rfl
theorem dksX7_season_2 : cX7_season.data.toList.drop 42 = dktX7_season_2 := dk_seg dksX7_season_1 20 rfl rfl
theorem dksX7_season_3 : cX7_season.data.toList.drop 72 = dktX7_season_3 := dk_seg dksX7_season_2 30 rfl rfl
theorem dksX7_season_4 : cX7_season.data.toList.drop 96 = dktX7_season_4 := dk_seg dksX7_season_3 24 rfl rfl
theorem dksX7_season_5 : cX7_season.data.toList.drop 118 = dktX7_season_5 := dk_seg dksX7_season_4 22 rfl rfl
theorem dksX7_season_6 : cX7_season.data.toList.drop 142 = dktX7_season_6 := dk_seg dksX7_season_5 24 rfl rfl
theorem dX7_season_0 : decode cX7_season 0 = .ok (.aload_n 0, 1) := dk_42 (dk_at dksX7_season_0 0 rfl rfl)
theorem dX7_season_1 : decode cX7_season 1 = .ok (.iload_n 1, 1) := dk_27 (dk_at dksX7_season_0 1 rfl rfl)
theorem dX7_season_2 : decode cX7_season 2 = .ok (.iload_n 2, 1) := dk_28 (dk_at dksX7_season_0 2 rfl rfl)
theorem dX7_season_3 : decode cX7_season 3 = .ok (.invokevirtual 198, 3) := dk_182 0 198 (dk_at dksX7_season_0 3 rfl rfl)
theorem dX7_season_6 : decode cX7_season 6 = .ok (.istore 4, 2) := dk_54 4 (dk_at dksX7_season_0 6 rfl rfl)
theorem dX7_season_8 : decode cX7_season 8 = .ok (.iload 4, 2) := dk_21 4 (dk_at dksX7_season_0 8 rfl rfl)
theorem dX7_season_10 : decode cX7_season 10 = .ok (.ifCond .eq 6, 3) := dk_153 0 6 (dk_at dksX7_season_0 10 rfl rfl)
theorem dX7_season_13 : decode cX7_season 13 = .ok (.iload 4, 2) := dk_21 4 (dk_at dksX7_season_0 13 rfl rfl)
theorem dX7_season_15 : decode cX7_season 15 = .ok (.ireturn, 1) := dk_172 (dk_at dksX7_season_0 15 rfl rfl)
theorem dX7_season_16 : decode cX7_season 16 = .ok (.iload_n 3, 1) := dk_29 (dk_at dksX7_season_0 16 rfl rfl)
theorem dX7_season_17 : decode cX7_season 17 = .ok (.iconst 0, 1) := dk_3 (dk_at dksX7_season_0 17 rfl rfl)
theorem dX7_season_18 : decode cX7_season 18 = .ok (.iconst 4, 1) := dk_7 (dk_at dksX7_season_0 18 rfl rfl)
theorem dX7_season_19 : decode cX7_season 19 = .ok (.invokestatic 72, 3) := dk_184 0 72 (dk_at dksX7_season_0 19 rfl rfl)
theorem dX7_season_22 : decode cX7_season 22 = .ok (.ifCond .ne 6, 3) := dk_154 0 6 (dk_at dksX7_season_1 0 rfl rfl)
theorem dX7_season_25 : decode cX7_season 25 = .ok (.bipush (-7), 2) := dk_16 249 (dk_at dksX7_season_1 3 rfl rfl)
theorem dX7_season_27 : decode cX7_season 27 = .ok (.ireturn, 1) := dk_172 (dk_at dksX7_season_1 5 rfl rfl)
theorem dX7_season_28 : decode cX7_season 28 = .ok (.aload_n 0, 1) := dk_42 (dk_at dksX7_season_1 6 rfl rfl)
theorem dX7_season_29 : decode cX7_season 29 = .ok (.invokevirtual 201, 3) := dk_182 0 201 (dk_at dksX7_season_1 7 rfl rfl)
theorem dX7_season_32 : decode cX7_season 32 = .ok (.aload_n 0, 1) := dk_42 (dk_at dksX7_season_1 10 rfl rfl)
theorem dX7_season_33 : decode cX7_season 33 = .ok (.iload_n 1, 1) := dk_27 (dk_at dksX7_season_1 11 rfl rfl)
theorem dX7_season_34 : decode cX7_season 34 = .ok (.iload_n 2, 1) := dk_28 (dk_at dksX7_season_1 12 rfl rfl)
theorem dX7_season_35 : decode cX7_season 35 = .ok (.invokevirtual 204, 3) := dk_182 0 204 (dk_at dksX7_season_1 13 rfl rfl)
theorem dX7_season_38 : decode cX7_season 38 = .ok (.iconst 0, 1) := dk_3 (dk_at dksX7_season_1 16 rfl rfl)
theorem dX7_season_39 : decode cX7_season 39 = .ok (.istore 5, 2) := dk_54 5 (dk_at dksX7_season_1 17 rfl rfl)
theorem dX7_season_41 : decode cX7_season 41 = .ok (.iload_n 3, 1) := dk_29 (dk_at dksX7_season_1 19 rfl rfl)
theorem dX7_season_42 : decode cX7_season 42 = .ok (.tableswitch 79 0 3 #[30, 46, 61, 70], 30) := by decide +kernel
theorem dX7_season_72 : decode cX7_season 72 = .ok (.aload_n 0, 1) := dk_42 (dk_at dksX7_season_3 0 rfl rfl)
theorem dX7_season_73 : decode cX7_season 73 = .ok (.getfield 16, 3) := dk_180 0 16 (dk_at dksX7_season_3 1 rfl rfl)
theorem dX7_season_76 : decode cX7_season 76 = .ok (.iconst 3, 1) := dk_6 (dk_at dksX7_season_3 4 rfl rfl)
theorem dX7_season_77 : decode cX7_season 77 = .ok (.iload_n 2, 1) := dk_28 (dk_at dksX7_season_3 5 rfl rfl)
theorem dX7_season_78 : decode cX7_season 78 = .ok (.imul, 1) := dk_104 (dk_at dksX7_season_3 6 rfl rfl)
theorem dX7_season_79 : decode cX7_season 79 = .ok (.iaload, 1) := dk_46 (dk_at dksX7_season_3 7 rfl rfl)
theorem dX7_season_80 : decode cX7_season 80 = .ok (.invokestatic 79, 3) := dk_184 0 79 (dk_at dksX7_season_3 8 rfl rfl)
theorem dX7_season_83 : decode cX7_season 83 = .ok (.istore 5, 2) := dk_54 5 (dk_at dksX7_season_3 11 rfl rfl)
theorem dX7_season_85 : decode cX7_season 85 = .ok (.goto 59, 3) := dk_167 0 59 (dk_at dksX7_season_3 13 rfl rfl)
theorem dX7_season_88 : decode cX7_season 88 = .ok (.aload_n 0, 1) := dk_42 (dk_at dksX7_season_3 16 rfl rfl)
theorem dX7_season_89 : decode cX7_season 89 = .ok (.getfield 16, 3) := dk_180 0 16 (dk_at dksX7_season_3 17 rfl rfl)
theorem dX7_season_92 : decode cX7_season 92 = .ok (.iconst 3, 1) := dk_6 (dk_at dksX7_season_3 20 rfl rfl)
theorem dX7_season_93 : decode cX7_season 93 = .ok (.iload_n 2, 1) := dk_28 (dk_at dksX7_season_3 21 rfl rfl)
theorem dX7_season_94 : decode cX7_season 94 = .ok (.imul, 1) := dk_104 (dk_at dksX7_season_3 22 rfl rfl)
theorem dX7_season_95 : decode cX7_season 95 = .ok (.iconst 2, 1) := dk_5 (dk_at dksX7_season_3 23 rfl rfl)
theorem dX7_season_96 : decode cX7_season 96 = .ok (.iadd, 1) := dk_96 (dk_at dksX7_season_4 0 rfl rfl)
theorem dX7_season_97 : decode cX7_season 97 = .ok (.iaload, 1) := dk_46 (dk_at dksX7_season_4 1 rfl rfl)
theorem dX7_season_98 : decode cX7_season 98 = .ok (.istore 5, 2) := dk_54 5 (dk_at dksX7_season_4 2 rfl rfl)
theorem dX7_season_100 : decode cX7_season 100 = .ok (.goto 44, 3) := dk_167 0 44 (dk_at dksX7_season_4 4 rfl rfl)
theorem dX7_season_103 : decode cX7_season 103 = .ok (.aload_n 0, 1) := dk_42 (dk_at dksX7_season_4 7 rfl rfl)
theorem dX7_season_104 : decode cX7_season 104 = .ok (.getfield 76, 3) := dk_180 0 76 (dk_at dksX7_season_4 8 rfl rfl)
theorem dX7_season_107 : decode cX7_season 107 = .ok (.istore 5, 2) := dk_54 5 (dk_at dksX7_season_4 11 rfl rfl)
theorem dX7_season_109 : decode cX7_season 109 = .ok (.goto 35, 3) := dk_167 0 35 (dk_at dksX7_season_4 13 rfl rfl)
theorem dX7_season_112 : decode cX7_season 112 = .ok (.aload_n 0, 1) := dk_42 (dk_at dksX7_season_4 16 rfl rfl)
theorem dX7_season_113 : decode cX7_season 113 = .ok (.getfield 195, 3) := dk_180 0 195 (dk_at dksX7_season_4 17 rfl rfl)
theorem dX7_season_116 : decode cX7_season 116 = .ok (.istore 5, 2) := dk_54 5 (dk_at dksX7_season_4 20 rfl rfl)
theorem dX7_season_118 : decode cX7_season 118 = .ok (.goto 26, 3) := dk_167 0 26 (dk_at dksX7_season_5 0 rfl rfl)
theorem dX7_season_121 : decode cX7_season 121 = .ok (.aload_n 0, 1) := dk_42 (dk_at dksX7_season_5 3 rfl rfl)
theorem dX7_season_122 : decode cX7_season 122 = .ok (.getfield 16, 3) := dk_180 0 16 (dk_at dksX7_season_5 4 rfl rfl)
theorem dX7_season_125 : decode cX7_season 125 = .ok (.iconst 3, 1) := dk_6 (dk_at dksX7_season_5 7 rfl rfl)
theorem dX7_season_126 : decode cX7_season 126 = .ok (.iload_n 2, 1) := dk_28 (dk_at dksX7_season_5 8 rfl rfl)
theorem dX7_season_127 : decode cX7_season 127 = .ok (.imul, 1) := dk_104 (dk_at dksX7_season_5 9 rfl rfl)
theorem dX7_season_128 : decode cX7_season 128 = .ok (.iconst 1, 1) := dk_4 (dk_at dksX7_season_5 10 rfl rfl)
theorem dX7_season_129 : decode cX7_season 129 = .ok (.iadd, 1) := dk_96 (dk_at dksX7_season_5 11 rfl rfl)
theorem dX7_season_130 : decode cX7_season 130 = .ok (.iaload, 1) := dk_46 (dk_at dksX7_season_5 12 rfl rfl)
theorem dX7_season_131 : decode cX7_season 131 = .ok (.aload_n 0, 1) := dk_42 (dk_at dksX7_season_5 13 rfl rfl)
theorem dX7_season_132 : decode cX7_season 132 = .ok (.getfield 16, 3) := dk_180 0 16 (dk_at dksX7_season_5 14 rfl rfl)
theorem dX7_season_135 : decode cX7_season 135 = .ok (.iconst 3, 1) := dk_6 (dk_at dksX7_season_5 17 rfl rfl)
theorem dX7_season_136 : decode cX7_season 136 = .ok (.iload_n 2, 1) := dk_28 (dk_at dksX7_season_5 18 rfl rfl)
theorem dX7_season_137 : decode cX7_season 137 = .ok (.imul, 1) := dk_104 (dk_at dksX7_season_5 19 rfl rfl)
theorem dX7_season_138 : decode cX7_season 138 = .ok (.iaload, 1) := dk_46 (dk_at dksX7_season_5 20 rfl rfl)
theorem dX7_season_139 : decode cX7_season 139 = .ok (.iconst (-1), 1) := dk_2 (dk_at dksX7_season_5 21 rfl rfl)
theorem dX7_season_140 : decode cX7_season 140 = .ok (.ixor, 1) := dk_130 (dk_at dksX7_season_5 22 rfl rfl)
theorem dX7_season_141 : decode cX7_season 141 = .ok (.iand, 1) := dk_126 (dk_at dksX7_season_5 23 rfl rfl)
theorem dX7_season_142 : decode cX7_season 142 = .ok (.istore 5, 2) := dk_54 5 (dk_at dksX7_season_6 0 rfl rfl)
theorem dX7_season_144 : decode cX7_season 144 = .ok (.aload_n 0, 1) := dk_42 (dk_at dksX7_season_6 2 rfl rfl)
theorem dX7_season_145 : decode cX7_season 145 = .ok (.invokevirtual 208, 3) := dk_182 0 208 (dk_at dksX7_season_6 3 rfl rfl)
theorem dX7_season_148 : decode cX7_season 148 = .ok (.iload 5, 2) := dk_21 5 (dk_at dksX7_season_6 6 rfl rfl)
theorem dX7_season_150 : decode cX7_season 150 = .ok (.ireturn, 1) := dk_172 (dk_at dksX7_season_6 8 rfl rfl)
abbrev cX7_oneWrong : ByteArray := prog_19_method_46_code
def yX7_oneWrong : MethodName := ⟨RX7, "oneWrong", "(II)I"⟩
def dkwX7_oneWrong_1 : List UInt8 := [167, 0, 5, 16, 251, 172]
abbrev dktX7_oneWrong_1 : List UInt8 := dkwX7_oneWrong_1 ++ []
def dkwX7_oneWrong_0 : List UInt8 := [42, 27, 182, 0, 192, 62, 29, 153, 0, 7, 29, 167, 0, 17, 42, 28, 182, 0, 162, 153, 0, 7, 3]
abbrev dktX7_oneWrong_0 : List UInt8 := dkwX7_oneWrong_0 ++ dktX7_oneWrong_1
theorem dksX7_oneWrong_0 : cX7_oneWrong.data.toList.drop 0 = dktX7_oneWrong_0 := by decide +kernel
theorem dksX7_oneWrong_1 : cX7_oneWrong.data.toList.drop 23 = dktX7_oneWrong_1 := dk_seg dksX7_oneWrong_0 23 rfl rfl
theorem dX7_oneWrong_0 : decode cX7_oneWrong 0 = .ok (.aload_n 0, 1) := dk_42 (dk_at dksX7_oneWrong_0 0 rfl rfl)
theorem dX7_oneWrong_1 : decode cX7_oneWrong 1 = .ok (.iload_n 1, 1) := dk_27 (dk_at dksX7_oneWrong_0 1 rfl rfl)
theorem dX7_oneWrong_2 : decode cX7_oneWrong 2 = .ok (.invokevirtual 192, 3) := dk_182 0 192 (dk_at dksX7_oneWrong_0 2 rfl rfl)
theorem dX7_oneWrong_5 : decode cX7_oneWrong 5 = .ok (.istore_n 3, 1) := dk_62 (dk_at dksX7_oneWrong_0 5 rfl rfl)
theorem dX7_oneWrong_6 : decode cX7_oneWrong 6 = .ok (.iload_n 3, 1) := dk_29 (dk_at dksX7_oneWrong_0 6 rfl rfl)
theorem dX7_oneWrong_7 : decode cX7_oneWrong 7 = .ok (.ifCond .eq 7, 3) := dk_153 0 7 (dk_at dksX7_oneWrong_0 7 rfl rfl)
theorem dX7_oneWrong_10 : decode cX7_oneWrong 10 = .ok (.iload_n 3, 1) := dk_29 (dk_at dksX7_oneWrong_0 10 rfl rfl)
theorem dX7_oneWrong_11 : decode cX7_oneWrong 11 = .ok (.goto 17, 3) := dk_167 0 17 (dk_at dksX7_oneWrong_0 11 rfl rfl)
theorem dX7_oneWrong_14 : decode cX7_oneWrong 14 = .ok (.aload_n 0, 1) := dk_42 (dk_at dksX7_oneWrong_0 14 rfl rfl)
theorem dX7_oneWrong_15 : decode cX7_oneWrong 15 = .ok (.iload_n 2, 1) := dk_28 (dk_at dksX7_oneWrong_0 15 rfl rfl)
theorem dX7_oneWrong_16 : decode cX7_oneWrong 16 = .ok (.invokevirtual 162, 3) := dk_182 0 162 (dk_at dksX7_oneWrong_0 16 rfl rfl)
theorem dX7_oneWrong_19 : decode cX7_oneWrong 19 = .ok (.ifCond .eq 7, 3) := dk_153 0 7 (dk_at dksX7_oneWrong_0 19 rfl rfl)
theorem dX7_oneWrong_22 : decode cX7_oneWrong 22 = .ok (.iconst 0, 1) := dk_3 (dk_at dksX7_oneWrong_0 22 rfl rfl)
theorem dX7_oneWrong_23 : decode cX7_oneWrong 23 = .ok (.goto 5, 3) := dk_167 0 5 (dk_at dksX7_oneWrong_1 0 rfl rfl)
theorem dX7_oneWrong_26 : decode cX7_oneWrong 26 = .ok (.bipush (-5), 2) := dk_16 251 (dk_at dksX7_oneWrong_1 3 rfl rfl)
theorem dX7_oneWrong_28 : decode cX7_oneWrong 28 = .ok (.ireturn, 1) := dk_172 (dk_at dksX7_oneWrong_1 5 rfl rfl)
abbrev cX7_seasonWrong : ByteArray := prog_19_method_45_code
def yX7_seasonWrong : MethodName := ⟨RX7, "seasonWrong", "(I)I"⟩
def dkwX7_seasonWrong_2 : List UInt8 := [184, 0, 165, 154, 0, 6, 16, 254, 172, 132, 2, 1, 167, 255, 223, 3, 172]
abbrev dktX7_seasonWrong_2 : List UInt8 := dkwX7_seasonWrong_2 ++ []
def dkwX7_seasonWrong_1 : List UInt8 := [172, 3, 61, 28, 42, 180, 0, 37, 27, 46, 162, 0, 29, 42, 180, 0, 40, 16, 40, 27, 104, 28, 96, 46]
abbrev dktX7_seasonWrong_1 : List UInt8 := dkwX7_seasonWrong_1 ++ dktX7_seasonWrong_2
def dkwX7_seasonWrong_0 : List UInt8 := [27, 3, 6, 184, 0, 72, 154, 0, 6, 16, 254, 172, 42, 180, 0, 34, 27, 46, 2, 160, 0, 6, 16, 245]
abbrev dktX7_seasonWrong_0 : List UInt8 := dkwX7_seasonWrong_0 ++ dktX7_seasonWrong_1
theorem dksX7_seasonWrong_0 : cX7_seasonWrong.data.toList.drop 0 = dktX7_seasonWrong_0 := by decide +kernel
theorem dksX7_seasonWrong_1 : cX7_seasonWrong.data.toList.drop 24 = dktX7_seasonWrong_1 := dk_seg dksX7_seasonWrong_0 24 rfl rfl
theorem dksX7_seasonWrong_2 : cX7_seasonWrong.data.toList.drop 48 = dktX7_seasonWrong_2 := dk_seg dksX7_seasonWrong_1 24 rfl rfl
theorem dX7_seasonWrong_0 : decode cX7_seasonWrong 0 = .ok (.iload_n 1, 1) := dk_27 (dk_at dksX7_seasonWrong_0 0 rfl rfl)
theorem dX7_seasonWrong_1 : decode cX7_seasonWrong 1 = .ok (.iconst 0, 1) := dk_3 (dk_at dksX7_seasonWrong_0 1 rfl rfl)
theorem dX7_seasonWrong_2 : decode cX7_seasonWrong 2 = .ok (.iconst 3, 1) := dk_6 (dk_at dksX7_seasonWrong_0 2 rfl rfl)
theorem dX7_seasonWrong_3 : decode cX7_seasonWrong 3 = .ok (.invokestatic 72, 3) := dk_184 0 72 (dk_at dksX7_seasonWrong_0 3 rfl rfl)
theorem dX7_seasonWrong_6 : decode cX7_seasonWrong 6 = .ok (.ifCond .ne 6, 3) := dk_154 0 6 (dk_at dksX7_seasonWrong_0 6 rfl rfl)
theorem dX7_seasonWrong_9 : decode cX7_seasonWrong 9 = .ok (.bipush (-2), 2) := dk_16 254 (dk_at dksX7_seasonWrong_0 9 rfl rfl)
theorem dX7_seasonWrong_11 : decode cX7_seasonWrong 11 = .ok (.ireturn, 1) := dk_172 (dk_at dksX7_seasonWrong_0 11 rfl rfl)
theorem dX7_seasonWrong_12 : decode cX7_seasonWrong 12 = .ok (.aload_n 0, 1) := dk_42 (dk_at dksX7_seasonWrong_0 12 rfl rfl)
theorem dX7_seasonWrong_13 : decode cX7_seasonWrong 13 = .ok (.getfield 34, 3) := dk_180 0 34 (dk_at dksX7_seasonWrong_0 13 rfl rfl)
theorem dX7_seasonWrong_16 : decode cX7_seasonWrong 16 = .ok (.iload_n 1, 1) := dk_27 (dk_at dksX7_seasonWrong_0 16 rfl rfl)
theorem dX7_seasonWrong_17 : decode cX7_seasonWrong 17 = .ok (.iaload, 1) := dk_46 (dk_at dksX7_seasonWrong_0 17 rfl rfl)
theorem dX7_seasonWrong_18 : decode cX7_seasonWrong 18 = .ok (.iconst (-1), 1) := dk_2 (dk_at dksX7_seasonWrong_0 18 rfl rfl)
theorem dX7_seasonWrong_19 : decode cX7_seasonWrong 19 = .ok (.if_icmp .ne 6, 3) := dk_160 0 6 (dk_at dksX7_seasonWrong_0 19 rfl rfl)
theorem dX7_seasonWrong_22 : decode cX7_seasonWrong 22 = .ok (.bipush (-11), 2) := dk_16 245 (dk_at dksX7_seasonWrong_0 22 rfl rfl)
theorem dX7_seasonWrong_24 : decode cX7_seasonWrong 24 = .ok (.ireturn, 1) := dk_172 (dk_at dksX7_seasonWrong_1 0 rfl rfl)
theorem dX7_seasonWrong_25 : decode cX7_seasonWrong 25 = .ok (.iconst 0, 1) := dk_3 (dk_at dksX7_seasonWrong_1 1 rfl rfl)
theorem dX7_seasonWrong_26 : decode cX7_seasonWrong 26 = .ok (.istore_n 2, 1) := dk_61 (dk_at dksX7_seasonWrong_1 2 rfl rfl)
theorem dX7_seasonWrong_27 : decode cX7_seasonWrong 27 = .ok (.iload_n 2, 1) := dk_28 (dk_at dksX7_seasonWrong_1 3 rfl rfl)
theorem dX7_seasonWrong_28 : decode cX7_seasonWrong 28 = .ok (.aload_n 0, 1) := dk_42 (dk_at dksX7_seasonWrong_1 4 rfl rfl)
theorem dX7_seasonWrong_29 : decode cX7_seasonWrong 29 = .ok (.getfield 37, 3) := dk_180 0 37 (dk_at dksX7_seasonWrong_1 5 rfl rfl)
theorem dX7_seasonWrong_32 : decode cX7_seasonWrong 32 = .ok (.iload_n 1, 1) := dk_27 (dk_at dksX7_seasonWrong_1 8 rfl rfl)
theorem dX7_seasonWrong_33 : decode cX7_seasonWrong 33 = .ok (.iaload, 1) := dk_46 (dk_at dksX7_seasonWrong_1 9 rfl rfl)
theorem dX7_seasonWrong_34 : decode cX7_seasonWrong 34 = .ok (.if_icmp .ge 29, 3) := dk_162 0 29 (dk_at dksX7_seasonWrong_1 10 rfl rfl)
theorem dX7_seasonWrong_37 : decode cX7_seasonWrong 37 = .ok (.aload_n 0, 1) := dk_42 (dk_at dksX7_seasonWrong_1 13 rfl rfl)
theorem dX7_seasonWrong_38 : decode cX7_seasonWrong 38 = .ok (.getfield 40, 3) := dk_180 0 40 (dk_at dksX7_seasonWrong_1 14 rfl rfl)
theorem dX7_seasonWrong_41 : decode cX7_seasonWrong 41 = .ok (.bipush 40, 2) := dk_16 40 (dk_at dksX7_seasonWrong_1 17 rfl rfl)
theorem dX7_seasonWrong_43 : decode cX7_seasonWrong 43 = .ok (.iload_n 1, 1) := dk_27 (dk_at dksX7_seasonWrong_1 19 rfl rfl)
theorem dX7_seasonWrong_44 : decode cX7_seasonWrong 44 = .ok (.imul, 1) := dk_104 (dk_at dksX7_seasonWrong_1 20 rfl rfl)
theorem dX7_seasonWrong_45 : decode cX7_seasonWrong 45 = .ok (.iload_n 2, 1) := dk_28 (dk_at dksX7_seasonWrong_1 21 rfl rfl)
theorem dX7_seasonWrong_46 : decode cX7_seasonWrong 46 = .ok (.iadd, 1) := dk_96 (dk_at dksX7_seasonWrong_1 22 rfl rfl)
theorem dX7_seasonWrong_47 : decode cX7_seasonWrong 47 = .ok (.iaload, 1) := dk_46 (dk_at dksX7_seasonWrong_1 23 rfl rfl)
theorem dX7_seasonWrong_48 : decode cX7_seasonWrong 48 = .ok (.invokestatic 165, 3) := dk_184 0 165 (dk_at dksX7_seasonWrong_2 0 rfl rfl)
theorem dX7_seasonWrong_51 : decode cX7_seasonWrong 51 = .ok (.ifCond .ne 6, 3) := dk_154 0 6 (dk_at dksX7_seasonWrong_2 3 rfl rfl)
theorem dX7_seasonWrong_54 : decode cX7_seasonWrong 54 = .ok (.bipush (-2), 2) := dk_16 254 (dk_at dksX7_seasonWrong_2 6 rfl rfl)
theorem dX7_seasonWrong_56 : decode cX7_seasonWrong 56 = .ok (.ireturn, 1) := dk_172 (dk_at dksX7_seasonWrong_2 8 rfl rfl)
theorem dX7_seasonWrong_57 : decode cX7_seasonWrong 57 = .ok (.iinc 2 1, 3) := dk_132 2 1 (dk_at dksX7_seasonWrong_2 9 rfl rfl)
theorem dX7_seasonWrong_60 : decode cX7_seasonWrong 60 = .ok (.goto (-33), 3) := dk_167 255 223 (dk_at dksX7_seasonWrong_2 12 rfl rfl)
theorem dX7_seasonWrong_63 : decode cX7_seasonWrong 63 = .ok (.iconst 0, 1) := dk_3 (dk_at dksX7_seasonWrong_2 15 rfl rfl)
theorem dX7_seasonWrong_64 : decode cX7_seasonWrong 64 = .ok (.ireturn, 1) := dk_172 (dk_at dksX7_seasonWrong_2 16 rfl rfl)
abbrev cX7_keeps : ByteArray := prog_19_method_43_code
def yX7_keeps : MethodName := ⟨RX7, "keeps", "()V"⟩
def dkwX7_keeps_2 : List UInt8 := [79, 177]
abbrev dktX7_keeps_2 : List UInt8 := dkwX7_keeps_2 ++ []
def dkwX7_keeps_1 : List UInt8 := [167, 255, 235, 42, 180, 0, 58, 16, 18, 42, 180, 0, 76, 79, 42, 180, 0, 58, 16, 19, 42, 180, 0, 83]
abbrev dktX7_keeps_1 : List UInt8 := dkwX7_keeps_1 ++ dktX7_keeps_2
def dkwX7_keeps_0 : List UInt8 := [3, 60, 27, 16, 18, 162, 0, 21, 42, 180, 0, 58, 27, 42, 180, 0, 16, 27, 46, 79, 132, 1, 1]
abbrev dktX7_keeps_0 : List UInt8 := dkwX7_keeps_0 ++ dktX7_keeps_1
theorem dksX7_keeps_0 : cX7_keeps.data.toList.drop 0 = dktX7_keeps_0 := by decide +kernel
theorem dksX7_keeps_1 : cX7_keeps.data.toList.drop 23 = dktX7_keeps_1 := dk_seg dksX7_keeps_0 23 rfl rfl
theorem dksX7_keeps_2 : cX7_keeps.data.toList.drop 47 = dktX7_keeps_2 := dk_seg dksX7_keeps_1 24 rfl rfl
theorem dX7_keeps_0 : decode cX7_keeps 0 = .ok (.iconst 0, 1) := dk_3 (dk_at dksX7_keeps_0 0 rfl rfl)
theorem dX7_keeps_1 : decode cX7_keeps 1 = .ok (.istore_n 1, 1) := dk_60 (dk_at dksX7_keeps_0 1 rfl rfl)
theorem dX7_keeps_2 : decode cX7_keeps 2 = .ok (.iload_n 1, 1) := dk_27 (dk_at dksX7_keeps_0 2 rfl rfl)
theorem dX7_keeps_3 : decode cX7_keeps 3 = .ok (.bipush 18, 2) := dk_16 18 (dk_at dksX7_keeps_0 3 rfl rfl)
theorem dX7_keeps_5 : decode cX7_keeps 5 = .ok (.if_icmp .ge 21, 3) := dk_162 0 21 (dk_at dksX7_keeps_0 5 rfl rfl)
theorem dX7_keeps_8 : decode cX7_keeps 8 = .ok (.aload_n 0, 1) := dk_42 (dk_at dksX7_keeps_0 8 rfl rfl)
theorem dX7_keeps_9 : decode cX7_keeps 9 = .ok (.getfield 58, 3) := dk_180 0 58 (dk_at dksX7_keeps_0 9 rfl rfl)
theorem dX7_keeps_12 : decode cX7_keeps 12 = .ok (.iload_n 1, 1) := dk_27 (dk_at dksX7_keeps_0 12 rfl rfl)
theorem dX7_keeps_13 : decode cX7_keeps 13 = .ok (.aload_n 0, 1) := dk_42 (dk_at dksX7_keeps_0 13 rfl rfl)
theorem dX7_keeps_14 : decode cX7_keeps 14 = .ok (.getfield 16, 3) := dk_180 0 16 (dk_at dksX7_keeps_0 14 rfl rfl)
theorem dX7_keeps_17 : decode cX7_keeps 17 = .ok (.iload_n 1, 1) := dk_27 (dk_at dksX7_keeps_0 17 rfl rfl)
theorem dX7_keeps_18 : decode cX7_keeps 18 = .ok (.iaload, 1) := dk_46 (dk_at dksX7_keeps_0 18 rfl rfl)
theorem dX7_keeps_19 : decode cX7_keeps 19 = .ok (.iastore, 1) := dk_79 (dk_at dksX7_keeps_0 19 rfl rfl)
theorem dX7_keeps_20 : decode cX7_keeps 20 = .ok (.iinc 1 1, 3) := dk_132 1 1 (dk_at dksX7_keeps_0 20 rfl rfl)
theorem dX7_keeps_23 : decode cX7_keeps 23 = .ok (.goto (-21), 3) := dk_167 255 235 (dk_at dksX7_keeps_1 0 rfl rfl)
theorem dX7_keeps_26 : decode cX7_keeps 26 = .ok (.aload_n 0, 1) := dk_42 (dk_at dksX7_keeps_1 3 rfl rfl)
theorem dX7_keeps_27 : decode cX7_keeps 27 = .ok (.getfield 58, 3) := dk_180 0 58 (dk_at dksX7_keeps_1 4 rfl rfl)
theorem dX7_keeps_30 : decode cX7_keeps 30 = .ok (.bipush 18, 2) := dk_16 18 (dk_at dksX7_keeps_1 7 rfl rfl)
theorem dX7_keeps_32 : decode cX7_keeps 32 = .ok (.aload_n 0, 1) := dk_42 (dk_at dksX7_keeps_1 9 rfl rfl)
theorem dX7_keeps_33 : decode cX7_keeps 33 = .ok (.getfield 76, 3) := dk_180 0 76 (dk_at dksX7_keeps_1 10 rfl rfl)
theorem dX7_keeps_36 : decode cX7_keeps 36 = .ok (.iastore, 1) := dk_79 (dk_at dksX7_keeps_1 13 rfl rfl)
theorem dX7_keeps_37 : decode cX7_keeps 37 = .ok (.aload_n 0, 1) := dk_42 (dk_at dksX7_keeps_1 14 rfl rfl)
theorem dX7_keeps_38 : decode cX7_keeps 38 = .ok (.getfield 58, 3) := dk_180 0 58 (dk_at dksX7_keeps_1 15 rfl rfl)
theorem dX7_keeps_41 : decode cX7_keeps 41 = .ok (.bipush 19, 2) := dk_16 19 (dk_at dksX7_keeps_1 18 rfl rfl)
theorem dX7_keeps_43 : decode cX7_keeps 43 = .ok (.aload_n 0, 1) := dk_42 (dk_at dksX7_keeps_1 20 rfl rfl)
theorem dX7_keeps_44 : decode cX7_keeps 44 = .ok (.getfield 83, 3) := dk_180 0 83 (dk_at dksX7_keeps_1 21 rfl rfl)
theorem dX7_keeps_47 : decode cX7_keeps 47 = .ok (.iastore, 1) := dk_79 (dk_at dksX7_keeps_2 0 rfl rfl)
theorem dX7_keeps_48 : decode cX7_keeps 48 = .ok (.return_, 1) := dk_177 (dk_at dksX7_keeps_2 1 rfl rfl)
abbrev cX7_goes : ByteArray := prog_19_method_47_code
def yX7_goes : MethodName := ⟨RX7, "goes", "(II)V"⟩
def dkwX7_goes_3 : List UInt8 := [167, 255, 194, 177]
abbrev dktX7_goes_3 : List UInt8 := dkwX7_goes_3 ++ []
def dkwX7_goes_2 : List UInt8 := [21, 4, 2, 160, 0, 7, 4, 167, 0, 4, 3, 96, 181, 0, 195, 42, 182, 0, 189, 87, 132, 3, 1]
abbrev dktX7_goes_2 : List UInt8 := dkwX7_goes_2 ++ dktX7_goes_3
def dkwX7_goes_1 : List UInt8 := [16, 40, 27, 104, 29, 96, 46, 3, 16, 15, 184, 0, 159, 182, 0, 183, 54, 4, 42, 89, 180, 0, 195]
abbrev dktX7_goes_1 : List UInt8 := dkwX7_goes_1 ++ dktX7_goes_2
def dkwX7_goes_0 : List UInt8 := [42, 3, 181, 0, 195, 3, 62, 29, 42, 180, 0, 37, 27, 46, 162, 0, 58, 42, 28, 42, 180, 0, 40]
abbrev dktX7_goes_0 : List UInt8 := dkwX7_goes_0 ++ dktX7_goes_1
theorem dksX7_goes_0 : cX7_goes.data.toList.drop 0 = dktX7_goes_0 := by decide +kernel
theorem dksX7_goes_1 : cX7_goes.data.toList.drop 23 = dktX7_goes_1 := dk_seg dksX7_goes_0 23 rfl rfl
theorem dksX7_goes_2 : cX7_goes.data.toList.drop 46 = dktX7_goes_2 := dk_seg dksX7_goes_1 23 rfl rfl
theorem dksX7_goes_3 : cX7_goes.data.toList.drop 69 = dktX7_goes_3 := dk_seg dksX7_goes_2 23 rfl rfl
theorem dX7_goes_0 : decode cX7_goes 0 = .ok (.aload_n 0, 1) := dk_42 (dk_at dksX7_goes_0 0 rfl rfl)
theorem dX7_goes_1 : decode cX7_goes 1 = .ok (.iconst 0, 1) := dk_3 (dk_at dksX7_goes_0 1 rfl rfl)
theorem dX7_goes_2 : decode cX7_goes 2 = .ok (.putfield 195, 3) := dk_181 0 195 (dk_at dksX7_goes_0 2 rfl rfl)
theorem dX7_goes_5 : decode cX7_goes 5 = .ok (.iconst 0, 1) := dk_3 (dk_at dksX7_goes_0 5 rfl rfl)
theorem dX7_goes_6 : decode cX7_goes 6 = .ok (.istore_n 3, 1) := dk_62 (dk_at dksX7_goes_0 6 rfl rfl)
theorem dX7_goes_7 : decode cX7_goes 7 = .ok (.iload_n 3, 1) := dk_29 (dk_at dksX7_goes_0 7 rfl rfl)
theorem dX7_goes_8 : decode cX7_goes 8 = .ok (.aload_n 0, 1) := dk_42 (dk_at dksX7_goes_0 8 rfl rfl)
theorem dX7_goes_9 : decode cX7_goes 9 = .ok (.getfield 37, 3) := dk_180 0 37 (dk_at dksX7_goes_0 9 rfl rfl)
theorem dX7_goes_12 : decode cX7_goes 12 = .ok (.iload_n 1, 1) := dk_27 (dk_at dksX7_goes_0 12 rfl rfl)
theorem dX7_goes_13 : decode cX7_goes 13 = .ok (.iaload, 1) := dk_46 (dk_at dksX7_goes_0 13 rfl rfl)
theorem dX7_goes_14 : decode cX7_goes 14 = .ok (.if_icmp .ge 58, 3) := dk_162 0 58 (dk_at dksX7_goes_0 14 rfl rfl)
theorem dX7_goes_17 : decode cX7_goes 17 = .ok (.aload_n 0, 1) := dk_42 (dk_at dksX7_goes_0 17 rfl rfl)
theorem dX7_goes_18 : decode cX7_goes 18 = .ok (.iload_n 2, 1) := dk_28 (dk_at dksX7_goes_0 18 rfl rfl)
theorem dX7_goes_19 : decode cX7_goes 19 = .ok (.aload_n 0, 1) := dk_42 (dk_at dksX7_goes_0 19 rfl rfl)
theorem dX7_goes_20 : decode cX7_goes 20 = .ok (.getfield 40, 3) := dk_180 0 40 (dk_at dksX7_goes_0 20 rfl rfl)
theorem dX7_goes_23 : decode cX7_goes 23 = .ok (.bipush 40, 2) := dk_16 40 (dk_at dksX7_goes_1 0 rfl rfl)
theorem dX7_goes_25 : decode cX7_goes 25 = .ok (.iload_n 1, 1) := dk_27 (dk_at dksX7_goes_1 2 rfl rfl)
theorem dX7_goes_26 : decode cX7_goes 26 = .ok (.imul, 1) := dk_104 (dk_at dksX7_goes_1 3 rfl rfl)
theorem dX7_goes_27 : decode cX7_goes 27 = .ok (.iload_n 3, 1) := dk_29 (dk_at dksX7_goes_1 4 rfl rfl)
theorem dX7_goes_28 : decode cX7_goes 28 = .ok (.iadd, 1) := dk_96 (dk_at dksX7_goes_1 5 rfl rfl)
theorem dX7_goes_29 : decode cX7_goes 29 = .ok (.iaload, 1) := dk_46 (dk_at dksX7_goes_1 6 rfl rfl)
theorem dX7_goes_30 : decode cX7_goes 30 = .ok (.iconst 0, 1) := dk_3 (dk_at dksX7_goes_1 7 rfl rfl)
theorem dX7_goes_31 : decode cX7_goes 31 = .ok (.bipush 15, 2) := dk_16 15 (dk_at dksX7_goes_1 8 rfl rfl)
theorem dX7_goes_33 : decode cX7_goes 33 = .ok (.invokestatic 159, 3) := dk_184 0 159 (dk_at dksX7_goes_1 10 rfl rfl)
theorem dX7_goes_36 : decode cX7_goes 36 = .ok (.invokevirtual 183, 3) := dk_182 0 183 (dk_at dksX7_goes_1 13 rfl rfl)
theorem dX7_goes_39 : decode cX7_goes 39 = .ok (.istore 4, 2) := dk_54 4 (dk_at dksX7_goes_1 16 rfl rfl)
theorem dX7_goes_41 : decode cX7_goes 41 = .ok (.aload_n 0, 1) := dk_42 (dk_at dksX7_goes_1 18 rfl rfl)
theorem dX7_goes_42 : decode cX7_goes 42 = .ok (.dup, 1) := dk_89 (dk_at dksX7_goes_1 19 rfl rfl)
theorem dX7_goes_43 : decode cX7_goes 43 = .ok (.getfield 195, 3) := dk_180 0 195 (dk_at dksX7_goes_1 20 rfl rfl)
theorem dX7_goes_46 : decode cX7_goes 46 = .ok (.iload 4, 2) := dk_21 4 (dk_at dksX7_goes_2 0 rfl rfl)
theorem dX7_goes_48 : decode cX7_goes 48 = .ok (.iconst (-1), 1) := dk_2 (dk_at dksX7_goes_2 2 rfl rfl)
theorem dX7_goes_49 : decode cX7_goes 49 = .ok (.if_icmp .ne 7, 3) := dk_160 0 7 (dk_at dksX7_goes_2 3 rfl rfl)
theorem dX7_goes_52 : decode cX7_goes 52 = .ok (.iconst 1, 1) := dk_4 (dk_at dksX7_goes_2 6 rfl rfl)
theorem dX7_goes_53 : decode cX7_goes 53 = .ok (.goto 4, 3) := dk_167 0 4 (dk_at dksX7_goes_2 7 rfl rfl)
theorem dX7_goes_56 : decode cX7_goes 56 = .ok (.iconst 0, 1) := dk_3 (dk_at dksX7_goes_2 10 rfl rfl)
theorem dX7_goes_57 : decode cX7_goes 57 = .ok (.iadd, 1) := dk_96 (dk_at dksX7_goes_2 11 rfl rfl)
theorem dX7_goes_58 : decode cX7_goes 58 = .ok (.putfield 195, 3) := dk_181 0 195 (dk_at dksX7_goes_2 12 rfl rfl)
theorem dX7_goes_61 : decode cX7_goes 61 = .ok (.aload_n 0, 1) := dk_42 (dk_at dksX7_goes_2 15 rfl rfl)
theorem dX7_goes_62 : decode cX7_goes 62 = .ok (.invokevirtual 189, 3) := dk_182 0 189 (dk_at dksX7_goes_2 16 rfl rfl)
theorem dX7_goes_65 : decode cX7_goes 65 = .ok (.pop, 1) := dk_87 (dk_at dksX7_goes_2 19 rfl rfl)
theorem dX7_goes_66 : decode cX7_goes 66 = .ok (.iinc 3 1, 3) := dk_132 3 1 (dk_at dksX7_goes_2 20 rfl rfl)
theorem dX7_goes_69 : decode cX7_goes 69 = .ok (.goto (-62), 3) := dk_167 255 194 (dk_at dksX7_goes_3 0 rfl rfl)
theorem dX7_goes_72 : decode cX7_goes 72 = .ok (.return_, 1) := dk_177 (dk_at dksX7_goes_3 3 rfl rfl)
abbrev cX7_lays : ByteArray := prog_19_method_44_code
def yX7_lays : MethodName := ⟨RX7, "lays", "()V"⟩
def dkwX7_lays_2 : List UInt8 := [181, 0, 83, 177]
abbrev dktX7_lays_2 : List UInt8 := dkwX7_lays_2 ++ []
def dkwX7_lays_1 : List UInt8 := [167, 255, 235, 42, 42, 180, 0, 58, 16, 18, 46, 181, 0, 76, 42, 42, 180, 0, 58, 16, 19, 46]
abbrev dktX7_lays_1 : List UInt8 := dkwX7_lays_1 ++ dktX7_lays_2
def dkwX7_lays_0 : List UInt8 := [3, 60, 27, 16, 18, 162, 0, 21, 42, 180, 0, 16, 27, 42, 180, 0, 58, 27, 46, 79, 132, 1, 1]
abbrev dktX7_lays_0 : List UInt8 := dkwX7_lays_0 ++ dktX7_lays_1
theorem dksX7_lays_0 : cX7_lays.data.toList.drop 0 = dktX7_lays_0 := by decide +kernel
theorem dksX7_lays_1 : cX7_lays.data.toList.drop 23 = dktX7_lays_1 := dk_seg dksX7_lays_0 23 rfl rfl
theorem dksX7_lays_2 : cX7_lays.data.toList.drop 45 = dktX7_lays_2 := dk_seg dksX7_lays_1 22 rfl rfl
theorem dX7_lays_0 : decode cX7_lays 0 = .ok (.iconst 0, 1) := dk_3 (dk_at dksX7_lays_0 0 rfl rfl)
theorem dX7_lays_1 : decode cX7_lays 1 = .ok (.istore_n 1, 1) := dk_60 (dk_at dksX7_lays_0 1 rfl rfl)
theorem dX7_lays_2 : decode cX7_lays 2 = .ok (.iload_n 1, 1) := dk_27 (dk_at dksX7_lays_0 2 rfl rfl)
theorem dX7_lays_3 : decode cX7_lays 3 = .ok (.bipush 18, 2) := dk_16 18 (dk_at dksX7_lays_0 3 rfl rfl)
theorem dX7_lays_5 : decode cX7_lays 5 = .ok (.if_icmp .ge 21, 3) := dk_162 0 21 (dk_at dksX7_lays_0 5 rfl rfl)
theorem dX7_lays_8 : decode cX7_lays 8 = .ok (.aload_n 0, 1) := dk_42 (dk_at dksX7_lays_0 8 rfl rfl)
theorem dX7_lays_9 : decode cX7_lays 9 = .ok (.getfield 16, 3) := dk_180 0 16 (dk_at dksX7_lays_0 9 rfl rfl)
theorem dX7_lays_12 : decode cX7_lays 12 = .ok (.iload_n 1, 1) := dk_27 (dk_at dksX7_lays_0 12 rfl rfl)
theorem dX7_lays_13 : decode cX7_lays 13 = .ok (.aload_n 0, 1) := dk_42 (dk_at dksX7_lays_0 13 rfl rfl)
theorem dX7_lays_14 : decode cX7_lays 14 = .ok (.getfield 58, 3) := dk_180 0 58 (dk_at dksX7_lays_0 14 rfl rfl)
theorem dX7_lays_17 : decode cX7_lays 17 = .ok (.iload_n 1, 1) := dk_27 (dk_at dksX7_lays_0 17 rfl rfl)
theorem dX7_lays_18 : decode cX7_lays 18 = .ok (.iaload, 1) := dk_46 (dk_at dksX7_lays_0 18 rfl rfl)
theorem dX7_lays_19 : decode cX7_lays 19 = .ok (.iastore, 1) := dk_79 (dk_at dksX7_lays_0 19 rfl rfl)
theorem dX7_lays_20 : decode cX7_lays 20 = .ok (.iinc 1 1, 3) := dk_132 1 1 (dk_at dksX7_lays_0 20 rfl rfl)
theorem dX7_lays_23 : decode cX7_lays 23 = .ok (.goto (-21), 3) := dk_167 255 235 (dk_at dksX7_lays_1 0 rfl rfl)
theorem dX7_lays_26 : decode cX7_lays 26 = .ok (.aload_n 0, 1) := dk_42 (dk_at dksX7_lays_1 3 rfl rfl)
theorem dX7_lays_27 : decode cX7_lays 27 = .ok (.aload_n 0, 1) := dk_42 (dk_at dksX7_lays_1 4 rfl rfl)
theorem dX7_lays_28 : decode cX7_lays 28 = .ok (.getfield 58, 3) := dk_180 0 58 (dk_at dksX7_lays_1 5 rfl rfl)
theorem dX7_lays_31 : decode cX7_lays 31 = .ok (.bipush 18, 2) := dk_16 18 (dk_at dksX7_lays_1 8 rfl rfl)
theorem dX7_lays_33 : decode cX7_lays 33 = .ok (.iaload, 1) := dk_46 (dk_at dksX7_lays_1 10 rfl rfl)
theorem dX7_lays_34 : decode cX7_lays 34 = .ok (.putfield 76, 3) := dk_181 0 76 (dk_at dksX7_lays_1 11 rfl rfl)
theorem dX7_lays_37 : decode cX7_lays 37 = .ok (.aload_n 0, 1) := dk_42 (dk_at dksX7_lays_1 14 rfl rfl)
theorem dX7_lays_38 : decode cX7_lays 38 = .ok (.aload_n 0, 1) := dk_42 (dk_at dksX7_lays_1 15 rfl rfl)
theorem dX7_lays_39 : decode cX7_lays 39 = .ok (.getfield 58, 3) := dk_180 0 58 (dk_at dksX7_lays_1 16 rfl rfl)
theorem dX7_lays_42 : decode cX7_lays 42 = .ok (.bipush 19, 2) := dk_16 19 (dk_at dksX7_lays_1 19 rfl rfl)
theorem dX7_lays_44 : decode cX7_lays 44 = .ok (.iaload, 1) := dk_46 (dk_at dksX7_lays_1 21 rfl rfl)
theorem dX7_lays_45 : decode cX7_lays 45 = .ok (.putfield 83, 3) := dk_181 0 83 (dk_at dksX7_lays_2 0 rfl rfl)
theorem dX7_lays_48 : decode cX7_lays 48 = .ok (.return_, 1) := dk_177 (dk_at dksX7_lays_2 3 rfl rfl)
abbrev cX7_fish : ByteArray := prog_19_method_49_code
def yX7_fish : MethodName := ⟨RX7, "fish", "(II)I"⟩
def dkwX7_fish_2 : List UInt8 := [184, 0, 79, 172]
abbrev dktX7_fish_2 : List UInt8 := dkwX7_fish_2 ++ []
def dkwX7_fish_1 : List UInt8 := [17, 3, 231, 164, 0, 6, 16, 253, 172, 42, 27, 28, 182, 0, 204, 42, 180, 0, 16, 6, 28, 104, 46]
abbrev dktX7_fish_1 : List UInt8 := dkwX7_fish_1 ++ dktX7_fish_2
def dkwX7_fish_0 : List UInt8 := [42, 27, 28, 182, 0, 198, 62, 29, 153, 0, 5, 29, 172, 42, 180, 0, 83, 42, 180, 0, 37, 27, 46, 96]
abbrev dktX7_fish_0 : List UInt8 := dkwX7_fish_0 ++ dktX7_fish_1
theorem dksX7_fish_0 : cX7_fish.data.toList.drop 0 = dktX7_fish_0 := by decide +kernel
theorem dksX7_fish_1 : cX7_fish.data.toList.drop 24 = dktX7_fish_1 := dk_seg dksX7_fish_0 24 rfl rfl
theorem dksX7_fish_2 : cX7_fish.data.toList.drop 47 = dktX7_fish_2 := dk_seg dksX7_fish_1 23 rfl rfl
theorem dX7_fish_0 : decode cX7_fish 0 = .ok (.aload_n 0, 1) := dk_42 (dk_at dksX7_fish_0 0 rfl rfl)
theorem dX7_fish_1 : decode cX7_fish 1 = .ok (.iload_n 1, 1) := dk_27 (dk_at dksX7_fish_0 1 rfl rfl)
theorem dX7_fish_2 : decode cX7_fish 2 = .ok (.iload_n 2, 1) := dk_28 (dk_at dksX7_fish_0 2 rfl rfl)
theorem dX7_fish_3 : decode cX7_fish 3 = .ok (.invokevirtual 198, 3) := dk_182 0 198 (dk_at dksX7_fish_0 3 rfl rfl)
theorem dX7_fish_6 : decode cX7_fish 6 = .ok (.istore_n 3, 1) := dk_62 (dk_at dksX7_fish_0 6 rfl rfl)
theorem dX7_fish_7 : decode cX7_fish 7 = .ok (.iload_n 3, 1) := dk_29 (dk_at dksX7_fish_0 7 rfl rfl)
theorem dX7_fish_8 : decode cX7_fish 8 = .ok (.ifCond .eq 5, 3) := dk_153 0 5 (dk_at dksX7_fish_0 8 rfl rfl)
theorem dX7_fish_11 : decode cX7_fish 11 = .ok (.iload_n 3, 1) := dk_29 (dk_at dksX7_fish_0 11 rfl rfl)
theorem dX7_fish_12 : decode cX7_fish 12 = .ok (.ireturn, 1) := dk_172 (dk_at dksX7_fish_0 12 rfl rfl)
theorem dX7_fish_13 : decode cX7_fish 13 = .ok (.aload_n 0, 1) := dk_42 (dk_at dksX7_fish_0 13 rfl rfl)
theorem dX7_fish_14 : decode cX7_fish 14 = .ok (.getfield 83, 3) := dk_180 0 83 (dk_at dksX7_fish_0 14 rfl rfl)
theorem dX7_fish_17 : decode cX7_fish 17 = .ok (.aload_n 0, 1) := dk_42 (dk_at dksX7_fish_0 17 rfl rfl)
theorem dX7_fish_18 : decode cX7_fish 18 = .ok (.getfield 37, 3) := dk_180 0 37 (dk_at dksX7_fish_0 18 rfl rfl)
theorem dX7_fish_21 : decode cX7_fish 21 = .ok (.iload_n 1, 1) := dk_27 (dk_at dksX7_fish_0 21 rfl rfl)
theorem dX7_fish_22 : decode cX7_fish 22 = .ok (.iaload, 1) := dk_46 (dk_at dksX7_fish_0 22 rfl rfl)
theorem dX7_fish_23 : decode cX7_fish 23 = .ok (.iadd, 1) := dk_96 (dk_at dksX7_fish_0 23 rfl rfl)
theorem dX7_fish_24 : decode cX7_fish 24 = .ok (.sipush 999, 3) := dk_17 3 231 (dk_at dksX7_fish_1 0 rfl rfl)
theorem dX7_fish_27 : decode cX7_fish 27 = .ok (.if_icmp .le 6, 3) := dk_164 0 6 (dk_at dksX7_fish_1 3 rfl rfl)
theorem dX7_fish_30 : decode cX7_fish 30 = .ok (.bipush (-3), 2) := dk_16 253 (dk_at dksX7_fish_1 6 rfl rfl)
theorem dX7_fish_32 : decode cX7_fish 32 = .ok (.ireturn, 1) := dk_172 (dk_at dksX7_fish_1 8 rfl rfl)
theorem dX7_fish_33 : decode cX7_fish 33 = .ok (.aload_n 0, 1) := dk_42 (dk_at dksX7_fish_1 9 rfl rfl)
theorem dX7_fish_34 : decode cX7_fish 34 = .ok (.iload_n 1, 1) := dk_27 (dk_at dksX7_fish_1 10 rfl rfl)
theorem dX7_fish_35 : decode cX7_fish 35 = .ok (.iload_n 2, 1) := dk_28 (dk_at dksX7_fish_1 11 rfl rfl)
theorem dX7_fish_36 : decode cX7_fish 36 = .ok (.invokevirtual 204, 3) := dk_182 0 204 (dk_at dksX7_fish_1 12 rfl rfl)
theorem dX7_fish_39 : decode cX7_fish 39 = .ok (.aload_n 0, 1) := dk_42 (dk_at dksX7_fish_1 15 rfl rfl)
theorem dX7_fish_40 : decode cX7_fish 40 = .ok (.getfield 16, 3) := dk_180 0 16 (dk_at dksX7_fish_1 16 rfl rfl)
theorem dX7_fish_43 : decode cX7_fish 43 = .ok (.iconst 3, 1) := dk_6 (dk_at dksX7_fish_1 19 rfl rfl)
theorem dX7_fish_44 : decode cX7_fish 44 = .ok (.iload_n 2, 1) := dk_28 (dk_at dksX7_fish_1 20 rfl rfl)
theorem dX7_fish_45 : decode cX7_fish 45 = .ok (.imul, 1) := dk_104 (dk_at dksX7_fish_1 21 rfl rfl)
theorem dX7_fish_46 : decode cX7_fish 46 = .ok (.iaload, 1) := dk_46 (dk_at dksX7_fish_1 22 rfl rfl)
theorem dX7_fish_47 : decode cX7_fish 47 = .ok (.invokestatic 79, 3) := dk_184 0 79 (dk_at dksX7_fish_2 0 rfl rfl)
theorem dX7_fish_50 : decode cX7_fish 50 = .ok (.ireturn, 1) := dk_172 (dk_at dksX7_fish_2 3 rfl rfl)
abbrev cX7_which : ByteArray := prog_19_method_50_code
def yX7_which : MethodName := ⟨RX7, "which", "(II)I"⟩
def dkwX7_which_6 : List UInt8 := [154, 0, 7, 29, 167, 0, 5, 21, 4, 172]
abbrev dktX7_which_6 : List UInt8 := dkwX7_which_6 ++ []
def dkwX7_which_5 : List UInt8 := [29, 62, 21, 7, 153, 0, 8, 21, 6, 167, 0, 5, 21, 4, 54, 4, 132, 5, 1, 167, 255, 157, 28]
abbrev dktX7_which_5 : List UInt8 := dkwX7_which_5 ++ dktX7_which_6
def dkwX7_which_4 : List UInt8 := [21, 6, 21, 4, 164, 0, 7, 4, 167, 0, 4, 3, 54, 7, 21, 7, 153, 0, 8, 21, 5, 167, 0, 4]
abbrev dktX7_which_4 : List UInt8 := dkwX7_which_4 ++ dktX7_which_5
def dkwX7_which_3 : List UInt8 := [5, 96, 46, 42, 27, 21, 5, 182, 0, 180, 96, 3, 16, 99, 184, 0, 159, 54, 6, 29, 2, 159, 0, 10]
abbrev dktX7_which_3 : List UInt8 := dkwX7_which_3 ++ dktX7_which_4
def dkwX7_which_2 : List UInt8 := [180, 0, 16, 6, 27, 104, 4, 96, 46, 21, 5, 122, 4, 126, 154, 0, 74, 42, 180, 0, 16, 6, 27, 104]
abbrev dktX7_which_2 : List UInt8 := dkwX7_which_2 ++ dktX7_which_3
def dkwX7_which_1 : List UInt8 := [62, 42, 180, 0, 16, 6, 27, 104, 5, 96, 46, 54, 4, 3, 54, 5, 21, 5, 16, 16, 162, 0, 98, 42]
abbrev dktX7_which_1 : List UInt8 := dkwX7_which_1 ++ dktX7_which_2
def dkwX7_which_0 : List UInt8 := [42, 27, 182, 0, 162, 154, 0, 6, 16, 251, 172, 28, 3, 4, 184, 0, 72, 154, 0, 6, 16, 249, 172, 2]
abbrev dktX7_which_0 : List UInt8 := dkwX7_which_0 ++ dktX7_which_1
theorem dksX7_which_0 : cX7_which.data.toList.drop 0 = dktX7_which_0 := by decide +kernel
theorem dksX7_which_1 : cX7_which.data.toList.drop 24 = dktX7_which_1 := dk_seg dksX7_which_0 24 rfl rfl
theorem dksX7_which_2 : cX7_which.data.toList.drop 48 = dktX7_which_2 := dk_seg dksX7_which_1 24 rfl rfl
theorem dksX7_which_3 : cX7_which.data.toList.drop 72 = dktX7_which_3 := dk_seg dksX7_which_2 24 rfl rfl
theorem dksX7_which_4 : cX7_which.data.toList.drop 96 = dktX7_which_4 := dk_seg dksX7_which_3 24 rfl rfl
theorem dksX7_which_5 : cX7_which.data.toList.drop 120 = dktX7_which_5 := dk_seg dksX7_which_4 24 rfl rfl
theorem dksX7_which_6 : cX7_which.data.toList.drop 143 = dktX7_which_6 := dk_seg dksX7_which_5 23 rfl rfl
theorem dX7_which_0 : decode cX7_which 0 = .ok (.aload_n 0, 1) := dk_42 (dk_at dksX7_which_0 0 rfl rfl)
theorem dX7_which_1 : decode cX7_which 1 = .ok (.iload_n 1, 1) := dk_27 (dk_at dksX7_which_0 1 rfl rfl)
theorem dX7_which_2 : decode cX7_which 2 = .ok (.invokevirtual 162, 3) := dk_182 0 162 (dk_at dksX7_which_0 2 rfl rfl)
theorem dX7_which_5 : decode cX7_which 5 = .ok (.ifCond .ne 6, 3) := dk_154 0 6 (dk_at dksX7_which_0 5 rfl rfl)
theorem dX7_which_8 : decode cX7_which 8 = .ok (.bipush (-5), 2) := dk_16 251 (dk_at dksX7_which_0 8 rfl rfl)
theorem dX7_which_10 : decode cX7_which 10 = .ok (.ireturn, 1) := dk_172 (dk_at dksX7_which_0 10 rfl rfl)
theorem dX7_which_11 : decode cX7_which 11 = .ok (.iload_n 2, 1) := dk_28 (dk_at dksX7_which_0 11 rfl rfl)
theorem dX7_which_12 : decode cX7_which 12 = .ok (.iconst 0, 1) := dk_3 (dk_at dksX7_which_0 12 rfl rfl)
theorem dX7_which_13 : decode cX7_which 13 = .ok (.iconst 1, 1) := dk_4 (dk_at dksX7_which_0 13 rfl rfl)
theorem dX7_which_14 : decode cX7_which 14 = .ok (.invokestatic 72, 3) := dk_184 0 72 (dk_at dksX7_which_0 14 rfl rfl)
theorem dX7_which_17 : decode cX7_which 17 = .ok (.ifCond .ne 6, 3) := dk_154 0 6 (dk_at dksX7_which_0 17 rfl rfl)
theorem dX7_which_20 : decode cX7_which 20 = .ok (.bipush (-7), 2) := dk_16 249 (dk_at dksX7_which_0 20 rfl rfl)
theorem dX7_which_22 : decode cX7_which 22 = .ok (.ireturn, 1) := dk_172 (dk_at dksX7_which_0 22 rfl rfl)
theorem dX7_which_23 : decode cX7_which 23 = .ok (.iconst (-1), 1) := dk_2 (dk_at dksX7_which_0 23 rfl rfl)
theorem dX7_which_24 : decode cX7_which 24 = .ok (.istore_n 3, 1) := dk_62 (dk_at dksX7_which_1 0 rfl rfl)
theorem dX7_which_25 : decode cX7_which 25 = .ok (.aload_n 0, 1) := dk_42 (dk_at dksX7_which_1 1 rfl rfl)
theorem dX7_which_26 : decode cX7_which 26 = .ok (.getfield 16, 3) := dk_180 0 16 (dk_at dksX7_which_1 2 rfl rfl)
theorem dX7_which_29 : decode cX7_which 29 = .ok (.iconst 3, 1) := dk_6 (dk_at dksX7_which_1 5 rfl rfl)
theorem dX7_which_30 : decode cX7_which 30 = .ok (.iload_n 1, 1) := dk_27 (dk_at dksX7_which_1 6 rfl rfl)
theorem dX7_which_31 : decode cX7_which 31 = .ok (.imul, 1) := dk_104 (dk_at dksX7_which_1 7 rfl rfl)
theorem dX7_which_32 : decode cX7_which 32 = .ok (.iconst 2, 1) := dk_5 (dk_at dksX7_which_1 8 rfl rfl)
theorem dX7_which_33 : decode cX7_which 33 = .ok (.iadd, 1) := dk_96 (dk_at dksX7_which_1 9 rfl rfl)
theorem dX7_which_34 : decode cX7_which 34 = .ok (.iaload, 1) := dk_46 (dk_at dksX7_which_1 10 rfl rfl)
theorem dX7_which_35 : decode cX7_which 35 = .ok (.istore 4, 2) := dk_54 4 (dk_at dksX7_which_1 11 rfl rfl)
theorem dX7_which_37 : decode cX7_which 37 = .ok (.iconst 0, 1) := dk_3 (dk_at dksX7_which_1 13 rfl rfl)
theorem dX7_which_38 : decode cX7_which 38 = .ok (.istore 5, 2) := dk_54 5 (dk_at dksX7_which_1 14 rfl rfl)
theorem dX7_which_40 : decode cX7_which 40 = .ok (.iload 5, 2) := dk_21 5 (dk_at dksX7_which_1 16 rfl rfl)
theorem dX7_which_42 : decode cX7_which 42 = .ok (.bipush 16, 2) := dk_16 16 (dk_at dksX7_which_1 18 rfl rfl)
theorem dX7_which_44 : decode cX7_which 44 = .ok (.if_icmp .ge 98, 3) := dk_162 0 98 (dk_at dksX7_which_1 20 rfl rfl)
theorem dX7_which_47 : decode cX7_which 47 = .ok (.aload_n 0, 1) := dk_42 (dk_at dksX7_which_1 23 rfl rfl)
theorem dX7_which_48 : decode cX7_which 48 = .ok (.getfield 16, 3) := dk_180 0 16 (dk_at dksX7_which_2 0 rfl rfl)
theorem dX7_which_51 : decode cX7_which 51 = .ok (.iconst 3, 1) := dk_6 (dk_at dksX7_which_2 3 rfl rfl)
theorem dX7_which_52 : decode cX7_which 52 = .ok (.iload_n 1, 1) := dk_27 (dk_at dksX7_which_2 4 rfl rfl)
theorem dX7_which_53 : decode cX7_which 53 = .ok (.imul, 1) := dk_104 (dk_at dksX7_which_2 5 rfl rfl)
theorem dX7_which_54 : decode cX7_which 54 = .ok (.iconst 1, 1) := dk_4 (dk_at dksX7_which_2 6 rfl rfl)
theorem dX7_which_55 : decode cX7_which 55 = .ok (.iadd, 1) := dk_96 (dk_at dksX7_which_2 7 rfl rfl)
theorem dX7_which_56 : decode cX7_which 56 = .ok (.iaload, 1) := dk_46 (dk_at dksX7_which_2 8 rfl rfl)
theorem dX7_which_57 : decode cX7_which 57 = .ok (.iload 5, 2) := dk_21 5 (dk_at dksX7_which_2 9 rfl rfl)
theorem dX7_which_59 : decode cX7_which 59 = .ok (.ishr, 1) := dk_122 (dk_at dksX7_which_2 11 rfl rfl)
theorem dX7_which_60 : decode cX7_which 60 = .ok (.iconst 1, 1) := dk_4 (dk_at dksX7_which_2 12 rfl rfl)
theorem dX7_which_61 : decode cX7_which 61 = .ok (.iand, 1) := dk_126 (dk_at dksX7_which_2 13 rfl rfl)
theorem dX7_which_62 : decode cX7_which 62 = .ok (.ifCond .ne 74, 3) := dk_154 0 74 (dk_at dksX7_which_2 14 rfl rfl)
theorem dX7_which_65 : decode cX7_which 65 = .ok (.aload_n 0, 1) := dk_42 (dk_at dksX7_which_2 17 rfl rfl)
theorem dX7_which_66 : decode cX7_which 66 = .ok (.getfield 16, 3) := dk_180 0 16 (dk_at dksX7_which_2 18 rfl rfl)
theorem dX7_which_69 : decode cX7_which 69 = .ok (.iconst 3, 1) := dk_6 (dk_at dksX7_which_2 21 rfl rfl)
theorem dX7_which_70 : decode cX7_which 70 = .ok (.iload_n 1, 1) := dk_27 (dk_at dksX7_which_2 22 rfl rfl)
theorem dX7_which_71 : decode cX7_which 71 = .ok (.imul, 1) := dk_104 (dk_at dksX7_which_2 23 rfl rfl)
theorem dX7_which_72 : decode cX7_which 72 = .ok (.iconst 2, 1) := dk_5 (dk_at dksX7_which_3 0 rfl rfl)
theorem dX7_which_73 : decode cX7_which 73 = .ok (.iadd, 1) := dk_96 (dk_at dksX7_which_3 1 rfl rfl)
theorem dX7_which_74 : decode cX7_which 74 = .ok (.iaload, 1) := dk_46 (dk_at dksX7_which_3 2 rfl rfl)
theorem dX7_which_75 : decode cX7_which 75 = .ok (.aload_n 0, 1) := dk_42 (dk_at dksX7_which_3 3 rfl rfl)
theorem dX7_which_76 : decode cX7_which 76 = .ok (.iload_n 1, 1) := dk_27 (dk_at dksX7_which_3 4 rfl rfl)
theorem dX7_which_77 : decode cX7_which 77 = .ok (.iload 5, 2) := dk_21 5 (dk_at dksX7_which_3 5 rfl rfl)
theorem dX7_which_79 : decode cX7_which 79 = .ok (.invokevirtual 180, 3) := dk_182 0 180 (dk_at dksX7_which_3 7 rfl rfl)
theorem dX7_which_82 : decode cX7_which 82 = .ok (.iadd, 1) := dk_96 (dk_at dksX7_which_3 10 rfl rfl)
theorem dX7_which_83 : decode cX7_which 83 = .ok (.iconst 0, 1) := dk_3 (dk_at dksX7_which_3 11 rfl rfl)
theorem dX7_which_84 : decode cX7_which 84 = .ok (.bipush 99, 2) := dk_16 99 (dk_at dksX7_which_3 12 rfl rfl)
theorem dX7_which_86 : decode cX7_which 86 = .ok (.invokestatic 159, 3) := dk_184 0 159 (dk_at dksX7_which_3 14 rfl rfl)
theorem dX7_which_89 : decode cX7_which 89 = .ok (.istore 6, 2) := dk_54 6 (dk_at dksX7_which_3 17 rfl rfl)
theorem dX7_which_91 : decode cX7_which 91 = .ok (.iload_n 3, 1) := dk_29 (dk_at dksX7_which_3 19 rfl rfl)
theorem dX7_which_92 : decode cX7_which 92 = .ok (.iconst (-1), 1) := dk_2 (dk_at dksX7_which_3 20 rfl rfl)
theorem dX7_which_93 : decode cX7_which 93 = .ok (.if_icmp .eq 10, 3) := dk_159 0 10 (dk_at dksX7_which_3 21 rfl rfl)
theorem dX7_which_96 : decode cX7_which 96 = .ok (.iload 6, 2) := dk_21 6 (dk_at dksX7_which_4 0 rfl rfl)
theorem dX7_which_98 : decode cX7_which 98 = .ok (.iload 4, 2) := dk_21 4 (dk_at dksX7_which_4 2 rfl rfl)
theorem dX7_which_100 : decode cX7_which 100 = .ok (.if_icmp .le 7, 3) := dk_164 0 7 (dk_at dksX7_which_4 4 rfl rfl)
theorem dX7_which_103 : decode cX7_which 103 = .ok (.iconst 1, 1) := dk_4 (dk_at dksX7_which_4 7 rfl rfl)
theorem dX7_which_104 : decode cX7_which 104 = .ok (.goto 4, 3) := dk_167 0 4 (dk_at dksX7_which_4 8 rfl rfl)
theorem dX7_which_107 : decode cX7_which 107 = .ok (.iconst 0, 1) := dk_3 (dk_at dksX7_which_4 11 rfl rfl)
theorem dX7_which_108 : decode cX7_which 108 = .ok (.istore 7, 2) := dk_54 7 (dk_at dksX7_which_4 12 rfl rfl)
theorem dX7_which_110 : decode cX7_which 110 = .ok (.iload 7, 2) := dk_21 7 (dk_at dksX7_which_4 14 rfl rfl)
theorem dX7_which_112 : decode cX7_which 112 = .ok (.ifCond .eq 8, 3) := dk_153 0 8 (dk_at dksX7_which_4 16 rfl rfl)
theorem dX7_which_115 : decode cX7_which 115 = .ok (.iload 5, 2) := dk_21 5 (dk_at dksX7_which_4 19 rfl rfl)
theorem dX7_which_117 : decode cX7_which 117 = .ok (.goto 4, 3) := dk_167 0 4 (dk_at dksX7_which_4 21 rfl rfl)
theorem dX7_which_120 : decode cX7_which 120 = .ok (.iload_n 3, 1) := dk_29 (dk_at dksX7_which_5 0 rfl rfl)
theorem dX7_which_121 : decode cX7_which 121 = .ok (.istore_n 3, 1) := dk_62 (dk_at dksX7_which_5 1 rfl rfl)
theorem dX7_which_122 : decode cX7_which 122 = .ok (.iload 7, 2) := dk_21 7 (dk_at dksX7_which_5 2 rfl rfl)
theorem dX7_which_124 : decode cX7_which 124 = .ok (.ifCond .eq 8, 3) := dk_153 0 8 (dk_at dksX7_which_5 4 rfl rfl)
theorem dX7_which_127 : decode cX7_which 127 = .ok (.iload 6, 2) := dk_21 6 (dk_at dksX7_which_5 7 rfl rfl)
theorem dX7_which_129 : decode cX7_which 129 = .ok (.goto 5, 3) := dk_167 0 5 (dk_at dksX7_which_5 9 rfl rfl)
theorem dX7_which_132 : decode cX7_which 132 = .ok (.iload 4, 2) := dk_21 4 (dk_at dksX7_which_5 12 rfl rfl)
theorem dX7_which_134 : decode cX7_which 134 = .ok (.istore 4, 2) := dk_54 4 (dk_at dksX7_which_5 14 rfl rfl)
theorem dX7_which_136 : decode cX7_which 136 = .ok (.iinc 5 1, 3) := dk_132 5 1 (dk_at dksX7_which_5 16 rfl rfl)
theorem dX7_which_139 : decode cX7_which 139 = .ok (.goto (-99), 3) := dk_167 255 157 (dk_at dksX7_which_5 19 rfl rfl)
theorem dX7_which_142 : decode cX7_which 142 = .ok (.iload_n 2, 1) := dk_28 (dk_at dksX7_which_5 22 rfl rfl)
theorem dX7_which_143 : decode cX7_which 143 = .ok (.ifCond .ne 7, 3) := dk_154 0 7 (dk_at dksX7_which_6 0 rfl rfl)
theorem dX7_which_146 : decode cX7_which 146 = .ok (.iload_n 3, 1) := dk_29 (dk_at dksX7_which_6 3 rfl rfl)
theorem dX7_which_147 : decode cX7_which 147 = .ok (.goto 5, 3) := dk_167 0 5 (dk_at dksX7_which_6 4 rfl rfl)
theorem dX7_which_150 : decode cX7_which 150 = .ok (.iload 4, 2) := dk_21 4 (dk_at dksX7_which_6 7 rfl rfl)
theorem dX7_which_152 : decode cX7_which 152 = .ok (.ireturn, 1) := dk_172 (dk_at dksX7_which_6 9 rfl rfl)
abbrev cX7_taught : ByteArray := prog_19_method_51_code
def yX7_taught : MethodName := ⟨RX7, "taught", "(II)I"⟩
def dkwX7_taught_6 : List UInt8 := [167, 0, 5, 21, 5, 172]
abbrev dktX7_taught_6 : List UInt8 := dkwX7_taught_6 ++ []
def dkwX7_taught_5 : List UInt8 := [164, 0, 8, 21, 7, 167, 0, 5, 21, 5, 54, 5, 132, 6, 1, 167, 255, 163, 28, 154, 0, 8, 21, 4]
abbrev dktX7_taught_5 : List UInt8 := dkwX7_taught_5 ++ dktX7_taught_6
def dkwX7_taught_4 : List UInt8 := [54, 7, 21, 7, 21, 5, 164, 0, 8, 21, 6, 167, 0, 5, 21, 4, 54, 4, 21, 7, 21, 5]
abbrev dktX7_taught_4 : List UInt8 := dkwX7_taught_4 ++ dktX7_taught_5
def dkwX7_taught_3 : List UInt8 := [27, 104, 46, 2, 130, 126, 184, 0, 79, 54, 7, 21, 7, 29, 162, 0, 8, 21, 7, 167, 0, 4, 29]
abbrev dktX7_taught_3 : List UInt8 := dkwX7_taught_3 ++ dktX7_taught_4
def dkwX7_taught_2 : List UInt8 := [21, 6, 27, 160, 0, 7, 3, 167, 0, 26, 42, 180, 0, 16, 6, 21, 6, 104, 46, 42, 180, 0, 16, 6]
abbrev dktX7_taught_2 : List UInt8 := dkwX7_taught_2 ++ dktX7_taught_3
def dkwX7_taught_1 : List UInt8 := [27, 182, 0, 174, 62, 2, 54, 4, 3, 54, 5, 3, 54, 6, 21, 6, 42, 180, 0, 69, 162, 0, 90]
abbrev dktX7_taught_1 : List UInt8 := dkwX7_taught_1 ++ dktX7_taught_2
def dkwX7_taught_0 : List UInt8 := [42, 27, 182, 0, 162, 154, 0, 6, 16, 251, 172, 28, 3, 4, 184, 0, 72, 154, 0, 6, 16, 249, 172, 42]
abbrev dktX7_taught_0 : List UInt8 := dkwX7_taught_0 ++ dktX7_taught_1
theorem dksX7_taught_0 : cX7_taught.data.toList.drop 0 = dktX7_taught_0 := by decide +kernel
theorem dksX7_taught_1 : cX7_taught.data.toList.drop 24 = dktX7_taught_1 := dk_seg dksX7_taught_0 24 rfl rfl
theorem dksX7_taught_2 : cX7_taught.data.toList.drop 47 = dktX7_taught_2 := dk_seg dksX7_taught_1 23 rfl rfl
theorem dksX7_taught_3 : cX7_taught.data.toList.drop 71 = dktX7_taught_3 := dk_seg dksX7_taught_2 24 rfl rfl
theorem dksX7_taught_4 : cX7_taught.data.toList.drop 94 = dktX7_taught_4 := dk_seg dksX7_taught_3 23 rfl rfl
theorem dksX7_taught_5 : cX7_taught.data.toList.drop 116 = dktX7_taught_5 := dk_seg dksX7_taught_4 22 rfl rfl
theorem dksX7_taught_6 : cX7_taught.data.toList.drop 140 = dktX7_taught_6 := dk_seg dksX7_taught_5 24 rfl rfl
theorem dX7_taught_0 : decode cX7_taught 0 = .ok (.aload_n 0, 1) := dk_42 (dk_at dksX7_taught_0 0 rfl rfl)
theorem dX7_taught_1 : decode cX7_taught 1 = .ok (.iload_n 1, 1) := dk_27 (dk_at dksX7_taught_0 1 rfl rfl)
theorem dX7_taught_2 : decode cX7_taught 2 = .ok (.invokevirtual 162, 3) := dk_182 0 162 (dk_at dksX7_taught_0 2 rfl rfl)
theorem dX7_taught_5 : decode cX7_taught 5 = .ok (.ifCond .ne 6, 3) := dk_154 0 6 (dk_at dksX7_taught_0 5 rfl rfl)
theorem dX7_taught_8 : decode cX7_taught 8 = .ok (.bipush (-5), 2) := dk_16 251 (dk_at dksX7_taught_0 8 rfl rfl)
theorem dX7_taught_10 : decode cX7_taught 10 = .ok (.ireturn, 1) := dk_172 (dk_at dksX7_taught_0 10 rfl rfl)
theorem dX7_taught_11 : decode cX7_taught 11 = .ok (.iload_n 2, 1) := dk_28 (dk_at dksX7_taught_0 11 rfl rfl)
theorem dX7_taught_12 : decode cX7_taught 12 = .ok (.iconst 0, 1) := dk_3 (dk_at dksX7_taught_0 12 rfl rfl)
theorem dX7_taught_13 : decode cX7_taught 13 = .ok (.iconst 1, 1) := dk_4 (dk_at dksX7_taught_0 13 rfl rfl)
theorem dX7_taught_14 : decode cX7_taught 14 = .ok (.invokestatic 72, 3) := dk_184 0 72 (dk_at dksX7_taught_0 14 rfl rfl)
theorem dX7_taught_17 : decode cX7_taught 17 = .ok (.ifCond .ne 6, 3) := dk_154 0 6 (dk_at dksX7_taught_0 17 rfl rfl)
theorem dX7_taught_20 : decode cX7_taught 20 = .ok (.bipush (-7), 2) := dk_16 249 (dk_at dksX7_taught_0 20 rfl rfl)
theorem dX7_taught_22 : decode cX7_taught 22 = .ok (.ireturn, 1) := dk_172 (dk_at dksX7_taught_0 22 rfl rfl)
theorem dX7_taught_23 : decode cX7_taught 23 = .ok (.aload_n 0, 1) := dk_42 (dk_at dksX7_taught_0 23 rfl rfl)
theorem dX7_taught_24 : decode cX7_taught 24 = .ok (.iload_n 1, 1) := dk_27 (dk_at dksX7_taught_1 0 rfl rfl)
theorem dX7_taught_25 : decode cX7_taught 25 = .ok (.invokevirtual 174, 3) := dk_182 0 174 (dk_at dksX7_taught_1 1 rfl rfl)
theorem dX7_taught_28 : decode cX7_taught 28 = .ok (.istore_n 3, 1) := dk_62 (dk_at dksX7_taught_1 4 rfl rfl)
theorem dX7_taught_29 : decode cX7_taught 29 = .ok (.iconst (-1), 1) := dk_2 (dk_at dksX7_taught_1 5 rfl rfl)
theorem dX7_taught_30 : decode cX7_taught 30 = .ok (.istore 4, 2) := dk_54 4 (dk_at dksX7_taught_1 6 rfl rfl)
theorem dX7_taught_32 : decode cX7_taught 32 = .ok (.iconst 0, 1) := dk_3 (dk_at dksX7_taught_1 8 rfl rfl)
theorem dX7_taught_33 : decode cX7_taught 33 = .ok (.istore 5, 2) := dk_54 5 (dk_at dksX7_taught_1 9 rfl rfl)
theorem dX7_taught_35 : decode cX7_taught 35 = .ok (.iconst 0, 1) := dk_3 (dk_at dksX7_taught_1 11 rfl rfl)
theorem dX7_taught_36 : decode cX7_taught 36 = .ok (.istore 6, 2) := dk_54 6 (dk_at dksX7_taught_1 12 rfl rfl)
theorem dX7_taught_38 : decode cX7_taught 38 = .ok (.iload 6, 2) := dk_21 6 (dk_at dksX7_taught_1 14 rfl rfl)
theorem dX7_taught_40 : decode cX7_taught 40 = .ok (.aload_n 0, 1) := dk_42 (dk_at dksX7_taught_1 16 rfl rfl)
theorem dX7_taught_41 : decode cX7_taught 41 = .ok (.getfield 69, 3) := dk_180 0 69 (dk_at dksX7_taught_1 17 rfl rfl)
theorem dX7_taught_44 : decode cX7_taught 44 = .ok (.if_icmp .ge 90, 3) := dk_162 0 90 (dk_at dksX7_taught_1 20 rfl rfl)
theorem dX7_taught_47 : decode cX7_taught 47 = .ok (.iload 6, 2) := dk_21 6 (dk_at dksX7_taught_2 0 rfl rfl)
theorem dX7_taught_49 : decode cX7_taught 49 = .ok (.iload_n 1, 1) := dk_27 (dk_at dksX7_taught_2 2 rfl rfl)
theorem dX7_taught_50 : decode cX7_taught 50 = .ok (.if_icmp .ne 7, 3) := dk_160 0 7 (dk_at dksX7_taught_2 3 rfl rfl)
theorem dX7_taught_53 : decode cX7_taught 53 = .ok (.iconst 0, 1) := dk_3 (dk_at dksX7_taught_2 6 rfl rfl)
theorem dX7_taught_54 : decode cX7_taught 54 = .ok (.goto 26, 3) := dk_167 0 26 (dk_at dksX7_taught_2 7 rfl rfl)
theorem dX7_taught_57 : decode cX7_taught 57 = .ok (.aload_n 0, 1) := dk_42 (dk_at dksX7_taught_2 10 rfl rfl)
theorem dX7_taught_58 : decode cX7_taught 58 = .ok (.getfield 16, 3) := dk_180 0 16 (dk_at dksX7_taught_2 11 rfl rfl)
theorem dX7_taught_61 : decode cX7_taught 61 = .ok (.iconst 3, 1) := dk_6 (dk_at dksX7_taught_2 14 rfl rfl)
theorem dX7_taught_62 : decode cX7_taught 62 = .ok (.iload 6, 2) := dk_21 6 (dk_at dksX7_taught_2 15 rfl rfl)
theorem dX7_taught_64 : decode cX7_taught 64 = .ok (.imul, 1) := dk_104 (dk_at dksX7_taught_2 17 rfl rfl)
theorem dX7_taught_65 : decode cX7_taught 65 = .ok (.iaload, 1) := dk_46 (dk_at dksX7_taught_2 18 rfl rfl)
theorem dX7_taught_66 : decode cX7_taught 66 = .ok (.aload_n 0, 1) := dk_42 (dk_at dksX7_taught_2 19 rfl rfl)
theorem dX7_taught_67 : decode cX7_taught 67 = .ok (.getfield 16, 3) := dk_180 0 16 (dk_at dksX7_taught_2 20 rfl rfl)
theorem dX7_taught_70 : decode cX7_taught 70 = .ok (.iconst 3, 1) := dk_6 (dk_at dksX7_taught_2 23 rfl rfl)
theorem dX7_taught_71 : decode cX7_taught 71 = .ok (.iload_n 1, 1) := dk_27 (dk_at dksX7_taught_3 0 rfl rfl)
theorem dX7_taught_72 : decode cX7_taught 72 = .ok (.imul, 1) := dk_104 (dk_at dksX7_taught_3 1 rfl rfl)
theorem dX7_taught_73 : decode cX7_taught 73 = .ok (.iaload, 1) := dk_46 (dk_at dksX7_taught_3 2 rfl rfl)
theorem dX7_taught_74 : decode cX7_taught 74 = .ok (.iconst (-1), 1) := dk_2 (dk_at dksX7_taught_3 3 rfl rfl)
theorem dX7_taught_75 : decode cX7_taught 75 = .ok (.ixor, 1) := dk_130 (dk_at dksX7_taught_3 4 rfl rfl)
theorem dX7_taught_76 : decode cX7_taught 76 = .ok (.iand, 1) := dk_126 (dk_at dksX7_taught_3 5 rfl rfl)
theorem dX7_taught_77 : decode cX7_taught 77 = .ok (.invokestatic 79, 3) := dk_184 0 79 (dk_at dksX7_taught_3 6 rfl rfl)
theorem dX7_taught_80 : decode cX7_taught 80 = .ok (.istore 7, 2) := dk_54 7 (dk_at dksX7_taught_3 9 rfl rfl)
theorem dX7_taught_82 : decode cX7_taught 82 = .ok (.iload 7, 2) := dk_21 7 (dk_at dksX7_taught_3 11 rfl rfl)
theorem dX7_taught_84 : decode cX7_taught 84 = .ok (.iload_n 3, 1) := dk_29 (dk_at dksX7_taught_3 13 rfl rfl)
theorem dX7_taught_85 : decode cX7_taught 85 = .ok (.if_icmp .ge 8, 3) := dk_162 0 8 (dk_at dksX7_taught_3 14 rfl rfl)
theorem dX7_taught_88 : decode cX7_taught 88 = .ok (.iload 7, 2) := dk_21 7 (dk_at dksX7_taught_3 17 rfl rfl)
theorem dX7_taught_90 : decode cX7_taught 90 = .ok (.goto 4, 3) := dk_167 0 4 (dk_at dksX7_taught_3 19 rfl rfl)
theorem dX7_taught_93 : decode cX7_taught 93 = .ok (.iload_n 3, 1) := dk_29 (dk_at dksX7_taught_3 22 rfl rfl)
theorem dX7_taught_94 : decode cX7_taught 94 = .ok (.istore 7, 2) := dk_54 7 (dk_at dksX7_taught_4 0 rfl rfl)
theorem dX7_taught_96 : decode cX7_taught 96 = .ok (.iload 7, 2) := dk_21 7 (dk_at dksX7_taught_4 2 rfl rfl)
theorem dX7_taught_98 : decode cX7_taught 98 = .ok (.iload 5, 2) := dk_21 5 (dk_at dksX7_taught_4 4 rfl rfl)
theorem dX7_taught_100 : decode cX7_taught 100 = .ok (.if_icmp .le 8, 3) := dk_164 0 8 (dk_at dksX7_taught_4 6 rfl rfl)
theorem dX7_taught_103 : decode cX7_taught 103 = .ok (.iload 6, 2) := dk_21 6 (dk_at dksX7_taught_4 9 rfl rfl)
theorem dX7_taught_105 : decode cX7_taught 105 = .ok (.goto 5, 3) := dk_167 0 5 (dk_at dksX7_taught_4 11 rfl rfl)
theorem dX7_taught_108 : decode cX7_taught 108 = .ok (.iload 4, 2) := dk_21 4 (dk_at dksX7_taught_4 14 rfl rfl)
theorem dX7_taught_110 : decode cX7_taught 110 = .ok (.istore 4, 2) := dk_54 4 (dk_at dksX7_taught_4 16 rfl rfl)
theorem dX7_taught_112 : decode cX7_taught 112 = .ok (.iload 7, 2) := dk_21 7 (dk_at dksX7_taught_4 18 rfl rfl)
theorem dX7_taught_114 : decode cX7_taught 114 = .ok (.iload 5, 2) := dk_21 5 (dk_at dksX7_taught_4 20 rfl rfl)
theorem dX7_taught_116 : decode cX7_taught 116 = .ok (.if_icmp .le 8, 3) := dk_164 0 8 (dk_at dksX7_taught_5 0 rfl rfl)
theorem dX7_taught_119 : decode cX7_taught 119 = .ok (.iload 7, 2) := dk_21 7 (dk_at dksX7_taught_5 3 rfl rfl)
theorem dX7_taught_121 : decode cX7_taught 121 = .ok (.goto 5, 3) := dk_167 0 5 (dk_at dksX7_taught_5 5 rfl rfl)
theorem dX7_taught_124 : decode cX7_taught 124 = .ok (.iload 5, 2) := dk_21 5 (dk_at dksX7_taught_5 8 rfl rfl)
theorem dX7_taught_126 : decode cX7_taught 126 = .ok (.istore 5, 2) := dk_54 5 (dk_at dksX7_taught_5 10 rfl rfl)
theorem dX7_taught_128 : decode cX7_taught 128 = .ok (.iinc 6 1, 3) := dk_132 6 1 (dk_at dksX7_taught_5 12 rfl rfl)
theorem dX7_taught_131 : decode cX7_taught 131 = .ok (.goto (-93), 3) := dk_167 255 163 (dk_at dksX7_taught_5 15 rfl rfl)
theorem dX7_taught_134 : decode cX7_taught 134 = .ok (.iload_n 2, 1) := dk_28 (dk_at dksX7_taught_5 18 rfl rfl)
theorem dX7_taught_135 : decode cX7_taught 135 = .ok (.ifCond .ne 8, 3) := dk_154 0 8 (dk_at dksX7_taught_5 19 rfl rfl)
theorem dX7_taught_138 : decode cX7_taught 138 = .ok (.iload 4, 2) := dk_21 4 (dk_at dksX7_taught_5 22 rfl rfl)
theorem dX7_taught_140 : decode cX7_taught 140 = .ok (.goto 5, 3) := dk_167 0 5 (dk_at dksX7_taught_6 0 rfl rfl)
theorem dX7_taught_143 : decode cX7_taught 143 = .ok (.iload 5, 2) := dk_21 5 (dk_at dksX7_taught_6 3 rfl rfl)
theorem dX7_taught_145 : decode cX7_taught 145 = .ok (.ireturn, 1) := dk_172 (dk_at dksX7_taught_6 5 rfl rfl)
abbrev cX7_lessons : ByteArray := prog_19_method_54_code
def yX7_lessons : MethodName := ⟨RX7, "lessons", "(III)I"⟩
def dkwX7_lessons_2 : List UInt8 := [21, 4, 167, 0, 7, 42, 180, 0, 211, 172]
abbrev dktX7_lessons_2 : List UInt8 := dkwX7_lessons_2 ++ []
def dkwX7_lessons_1 : List UInt8 := [154, 0, 6, 16, 249, 172, 42, 27, 28, 182, 0, 218, 54, 4, 29, 153, 0, 9, 21, 4, 2, 160, 0, 8]
abbrev dktX7_lessons_1 : List UInt8 := dkwX7_lessons_1 ++ dktX7_lessons_2
def dkwX7_lessons_0 : List UInt8 := [42, 27, 182, 0, 162, 154, 0, 6, 16, 251, 172, 28, 184, 0, 165, 153, 0, 12, 29, 3, 4, 184, 0, 72]
abbrev dktX7_lessons_0 : List UInt8 := dkwX7_lessons_0 ++ dktX7_lessons_1
theorem dksX7_lessons_0 : cX7_lessons.data.toList.drop 0 = dktX7_lessons_0 := by decide +kernel
theorem dksX7_lessons_1 : cX7_lessons.data.toList.drop 24 = dktX7_lessons_1 := dk_seg dksX7_lessons_0 24 rfl rfl
theorem dksX7_lessons_2 : cX7_lessons.data.toList.drop 48 = dktX7_lessons_2 := dk_seg dksX7_lessons_1 24 rfl rfl
theorem dX7_lessons_0 : decode cX7_lessons 0 = .ok (.aload_n 0, 1) := dk_42 (dk_at dksX7_lessons_0 0 rfl rfl)
theorem dX7_lessons_1 : decode cX7_lessons 1 = .ok (.iload_n 1, 1) := dk_27 (dk_at dksX7_lessons_0 1 rfl rfl)
theorem dX7_lessons_2 : decode cX7_lessons 2 = .ok (.invokevirtual 162, 3) := dk_182 0 162 (dk_at dksX7_lessons_0 2 rfl rfl)
theorem dX7_lessons_5 : decode cX7_lessons 5 = .ok (.ifCond .ne 6, 3) := dk_154 0 6 (dk_at dksX7_lessons_0 5 rfl rfl)
theorem dX7_lessons_8 : decode cX7_lessons 8 = .ok (.bipush (-5), 2) := dk_16 251 (dk_at dksX7_lessons_0 8 rfl rfl)
theorem dX7_lessons_10 : decode cX7_lessons 10 = .ok (.ireturn, 1) := dk_172 (dk_at dksX7_lessons_0 10 rfl rfl)
theorem dX7_lessons_11 : decode cX7_lessons 11 = .ok (.iload_n 2, 1) := dk_28 (dk_at dksX7_lessons_0 11 rfl rfl)
theorem dX7_lessons_12 : decode cX7_lessons 12 = .ok (.invokestatic 165, 3) := dk_184 0 165 (dk_at dksX7_lessons_0 12 rfl rfl)
theorem dX7_lessons_15 : decode cX7_lessons 15 = .ok (.ifCond .eq 12, 3) := dk_153 0 12 (dk_at dksX7_lessons_0 15 rfl rfl)
theorem dX7_lessons_18 : decode cX7_lessons 18 = .ok (.iload_n 3, 1) := dk_29 (dk_at dksX7_lessons_0 18 rfl rfl)
theorem dX7_lessons_19 : decode cX7_lessons 19 = .ok (.iconst 0, 1) := dk_3 (dk_at dksX7_lessons_0 19 rfl rfl)
theorem dX7_lessons_20 : decode cX7_lessons 20 = .ok (.iconst 1, 1) := dk_4 (dk_at dksX7_lessons_0 20 rfl rfl)
theorem dX7_lessons_21 : decode cX7_lessons 21 = .ok (.invokestatic 72, 3) := dk_184 0 72 (dk_at dksX7_lessons_0 21 rfl rfl)
theorem dX7_lessons_24 : decode cX7_lessons 24 = .ok (.ifCond .ne 6, 3) := dk_154 0 6 (dk_at dksX7_lessons_1 0 rfl rfl)
theorem dX7_lessons_27 : decode cX7_lessons 27 = .ok (.bipush (-7), 2) := dk_16 249 (dk_at dksX7_lessons_1 3 rfl rfl)
theorem dX7_lessons_29 : decode cX7_lessons 29 = .ok (.ireturn, 1) := dk_172 (dk_at dksX7_lessons_1 5 rfl rfl)
theorem dX7_lessons_30 : decode cX7_lessons 30 = .ok (.aload_n 0, 1) := dk_42 (dk_at dksX7_lessons_1 6 rfl rfl)
theorem dX7_lessons_31 : decode cX7_lessons 31 = .ok (.iload_n 1, 1) := dk_27 (dk_at dksX7_lessons_1 7 rfl rfl)
theorem dX7_lessons_32 : decode cX7_lessons 32 = .ok (.iload_n 2, 1) := dk_28 (dk_at dksX7_lessons_1 8 rfl rfl)
theorem dX7_lessons_33 : decode cX7_lessons 33 = .ok (.invokevirtual 218, 3) := dk_182 0 218 (dk_at dksX7_lessons_1 9 rfl rfl)
theorem dX7_lessons_36 : decode cX7_lessons 36 = .ok (.istore 4, 2) := dk_54 4 (dk_at dksX7_lessons_1 12 rfl rfl)
theorem dX7_lessons_38 : decode cX7_lessons 38 = .ok (.iload_n 3, 1) := dk_29 (dk_at dksX7_lessons_1 14 rfl rfl)
theorem dX7_lessons_39 : decode cX7_lessons 39 = .ok (.ifCond .eq 9, 3) := dk_153 0 9 (dk_at dksX7_lessons_1 15 rfl rfl)
theorem dX7_lessons_42 : decode cX7_lessons 42 = .ok (.iload 4, 2) := dk_21 4 (dk_at dksX7_lessons_1 18 rfl rfl)
theorem dX7_lessons_44 : decode cX7_lessons 44 = .ok (.iconst (-1), 1) := dk_2 (dk_at dksX7_lessons_1 20 rfl rfl)
theorem dX7_lessons_45 : decode cX7_lessons 45 = .ok (.if_icmp .ne 8, 3) := dk_160 0 8 (dk_at dksX7_lessons_1 21 rfl rfl)
theorem dX7_lessons_48 : decode cX7_lessons 48 = .ok (.iload 4, 2) := dk_21 4 (dk_at dksX7_lessons_2 0 rfl rfl)
theorem dX7_lessons_50 : decode cX7_lessons 50 = .ok (.goto 7, 3) := dk_167 0 7 (dk_at dksX7_lessons_2 2 rfl rfl)
theorem dX7_lessons_53 : decode cX7_lessons 53 = .ok (.aload_n 0, 1) := dk_42 (dk_at dksX7_lessons_2 5 rfl rfl)
theorem dX7_lessons_54 : decode cX7_lessons 54 = .ok (.getfield 211, 3) := dk_180 0 211 (dk_at dksX7_lessons_2 6 rfl rfl)
theorem dX7_lessons_57 : decode cX7_lessons 57 = .ok (.ireturn, 1) := dk_172 (dk_at dksX7_lessons_2 9 rfl rfl)
abbrev cX7_fewestLessons : ByteArray := prog_19_method_53_code
def yX7_fewestLessons : MethodName := ⟨RX7, "fewestLessons", "(II)I"⟩
def dkwX7_fewestLessons_2 : List UInt8 := [132, 4, 1, 167, 255, 211, 2, 172]
abbrev dktX7_fewestLessons_2 : List UInt8 := dkwX7_fewestLessons_2 ++ []
def dkwX7_fewestLessons_1 : List UInt8 := [21, 5, 21, 4, 182, 0, 214, 153, 0, 6, 21, 4, 172, 132, 5, 1, 167, 255, 231, 29, 16, 36, 104, 62]
abbrev dktX7_fewestLessons_1 : List UInt8 := dkwX7_fewestLessons_1 ++ dktX7_fewestLessons_2
def dkwX7_fewestLessons_0 : List UInt8 := [4, 62, 3, 54, 4, 21, 4, 6, 163, 0, 45, 3, 54, 5, 21, 5, 29, 162, 0, 25, 42, 27, 28]
abbrev dktX7_fewestLessons_0 : List UInt8 := dkwX7_fewestLessons_0 ++ dktX7_fewestLessons_1
theorem dksX7_fewestLessons_0 : cX7_fewestLessons.data.toList.drop 0 = dktX7_fewestLessons_0 := by decide +kernel
theorem dksX7_fewestLessons_1 : cX7_fewestLessons.data.toList.drop 23 = dktX7_fewestLessons_1 := dk_seg dksX7_fewestLessons_0 23 rfl rfl
theorem dksX7_fewestLessons_2 : cX7_fewestLessons.data.toList.drop 47 = dktX7_fewestLessons_2 := dk_seg dksX7_fewestLessons_1 24 rfl rfl
theorem dX7_fewestLessons_0 : decode cX7_fewestLessons 0 = .ok (.iconst 1, 1) := dk_4 (dk_at dksX7_fewestLessons_0 0 rfl rfl)
theorem dX7_fewestLessons_1 : decode cX7_fewestLessons 1 = .ok (.istore_n 3, 1) := dk_62 (dk_at dksX7_fewestLessons_0 1 rfl rfl)
theorem dX7_fewestLessons_2 : decode cX7_fewestLessons 2 = .ok (.iconst 0, 1) := dk_3 (dk_at dksX7_fewestLessons_0 2 rfl rfl)
theorem dX7_fewestLessons_3 : decode cX7_fewestLessons 3 = .ok (.istore 4, 2) := dk_54 4 (dk_at dksX7_fewestLessons_0 3 rfl rfl)
theorem dX7_fewestLessons_5 : decode cX7_fewestLessons 5 = .ok (.iload 4, 2) := dk_21 4 (dk_at dksX7_fewestLessons_0 5 rfl rfl)
theorem dX7_fewestLessons_7 : decode cX7_fewestLessons 7 = .ok (.iconst 3, 1) := dk_6 (dk_at dksX7_fewestLessons_0 7 rfl rfl)
theorem dX7_fewestLessons_8 : decode cX7_fewestLessons 8 = .ok (.if_icmp .gt 45, 3) := dk_163 0 45 (dk_at dksX7_fewestLessons_0 8 rfl rfl)
theorem dX7_fewestLessons_11 : decode cX7_fewestLessons 11 = .ok (.iconst 0, 1) := dk_3 (dk_at dksX7_fewestLessons_0 11 rfl rfl)
theorem dX7_fewestLessons_12 : decode cX7_fewestLessons 12 = .ok (.istore 5, 2) := dk_54 5 (dk_at dksX7_fewestLessons_0 12 rfl rfl)
theorem dX7_fewestLessons_14 : decode cX7_fewestLessons 14 = .ok (.iload 5, 2) := dk_21 5 (dk_at dksX7_fewestLessons_0 14 rfl rfl)
theorem dX7_fewestLessons_16 : decode cX7_fewestLessons 16 = .ok (.iload_n 3, 1) := dk_29 (dk_at dksX7_fewestLessons_0 16 rfl rfl)
theorem dX7_fewestLessons_17 : decode cX7_fewestLessons 17 = .ok (.if_icmp .ge 25, 3) := dk_162 0 25 (dk_at dksX7_fewestLessons_0 17 rfl rfl)
theorem dX7_fewestLessons_20 : decode cX7_fewestLessons 20 = .ok (.aload_n 0, 1) := dk_42 (dk_at dksX7_fewestLessons_0 20 rfl rfl)
theorem dX7_fewestLessons_21 : decode cX7_fewestLessons 21 = .ok (.iload_n 1, 1) := dk_27 (dk_at dksX7_fewestLessons_0 21 rfl rfl)
theorem dX7_fewestLessons_22 : decode cX7_fewestLessons 22 = .ok (.iload_n 2, 1) := dk_28 (dk_at dksX7_fewestLessons_0 22 rfl rfl)
theorem dX7_fewestLessons_23 : decode cX7_fewestLessons 23 = .ok (.iload 5, 2) := dk_21 5 (dk_at dksX7_fewestLessons_1 0 rfl rfl)
theorem dX7_fewestLessons_25 : decode cX7_fewestLessons 25 = .ok (.iload 4, 2) := dk_21 4 (dk_at dksX7_fewestLessons_1 2 rfl rfl)
theorem dX7_fewestLessons_27 : decode cX7_fewestLessons 27 = .ok (.invokevirtual 214, 3) := dk_182 0 214 (dk_at dksX7_fewestLessons_1 4 rfl rfl)
theorem dX7_fewestLessons_30 : decode cX7_fewestLessons 30 = .ok (.ifCond .eq 6, 3) := dk_153 0 6 (dk_at dksX7_fewestLessons_1 7 rfl rfl)
theorem dX7_fewestLessons_33 : decode cX7_fewestLessons 33 = .ok (.iload 4, 2) := dk_21 4 (dk_at dksX7_fewestLessons_1 10 rfl rfl)
theorem dX7_fewestLessons_35 : decode cX7_fewestLessons 35 = .ok (.ireturn, 1) := dk_172 (dk_at dksX7_fewestLessons_1 12 rfl rfl)
theorem dX7_fewestLessons_36 : decode cX7_fewestLessons 36 = .ok (.iinc 5 1, 3) := dk_132 5 1 (dk_at dksX7_fewestLessons_1 13 rfl rfl)
theorem dX7_fewestLessons_39 : decode cX7_fewestLessons 39 = .ok (.goto (-25), 3) := dk_167 255 231 (dk_at dksX7_fewestLessons_1 16 rfl rfl)
theorem dX7_fewestLessons_42 : decode cX7_fewestLessons 42 = .ok (.iload_n 3, 1) := dk_29 (dk_at dksX7_fewestLessons_1 19 rfl rfl)
theorem dX7_fewestLessons_43 : decode cX7_fewestLessons 43 = .ok (.bipush 36, 2) := dk_16 36 (dk_at dksX7_fewestLessons_1 20 rfl rfl)
theorem dX7_fewestLessons_45 : decode cX7_fewestLessons 45 = .ok (.imul, 1) := dk_104 (dk_at dksX7_fewestLessons_1 22 rfl rfl)
theorem dX7_fewestLessons_46 : decode cX7_fewestLessons 46 = .ok (.istore_n 3, 1) := dk_62 (dk_at dksX7_fewestLessons_1 23 rfl rfl)
theorem dX7_fewestLessons_47 : decode cX7_fewestLessons 47 = .ok (.iinc 4 1, 3) := dk_132 4 1 (dk_at dksX7_fewestLessons_2 0 rfl rfl)
theorem dX7_fewestLessons_50 : decode cX7_fewestLessons 50 = .ok (.goto (-45), 3) := dk_167 255 211 (dk_at dksX7_fewestLessons_2 3 rfl rfl)
theorem dX7_fewestLessons_53 : decode cX7_fewestLessons 53 = .ok (.iconst (-1), 1) := dk_2 (dk_at dksX7_fewestLessons_2 6 rfl rfl)
theorem dX7_fewestLessons_54 : decode cX7_fewestLessons 54 = .ok (.ireturn, 1) := dk_172 (dk_at dksX7_fewestLessons_2 7 rfl rfl)
abbrev cX7_knowsBy : ByteArray := prog_19_method_52_code
def yX7_knowsBy : MethodName := ⟨RX7, "knowsBy", "(IIII)Z"⟩
def dkwX7_knowsBy_9 : List UInt8 := [54, 7, 42, 182, 0, 208, 21, 7, 172]
abbrev dktX7_knowsBy_9 : List UInt8 := dkwX7_knowsBy_9 ++ []
def dkwX7_knowsBy_8 : List UInt8 := [153, 0, 23, 42, 180, 0, 16, 6, 27, 104, 46, 28, 122, 4, 126, 4, 160, 0, 7, 4, 167, 0, 4, 3]
abbrev dktX7_knowsBy_8 : List UInt8 := dkwX7_knowsBy_8 ++ dktX7_knowsBy_9
def dkwX7_knowsBy_7 : List UInt8 := [16, 10, 21, 10, 104, 96, 21, 11, 96, 4, 96, 181, 0, 211, 132, 8, 1, 167, 255, 118, 21, 7]
abbrev dktX7_knowsBy_7 : List UInt8 := dkwX7_knowsBy_7 ++ dktX7_knowsBy_8
def dkwX7_knowsBy_6 : List UInt8 := [54, 7, 21, 7, 153, 0, 34, 42, 21, 10, 21, 11, 182, 0, 186, 87, 42, 16, 100, 42, 180, 0, 211, 104]
abbrev dktX7_knowsBy_6 : List UInt8 := dkwX7_knowsBy_6 ++ dktX7_knowsBy_7
def dkwX7_knowsBy_5 : List UInt8 := [162, 0, 23, 21, 11, 42, 180, 0, 69, 162, 0, 14, 21, 10, 21, 11, 159, 0, 7, 4, 167, 0, 4, 3]
abbrev dktX7_knowsBy_5 : List UInt8 := dkwX7_knowsBy_5 ++ dktX7_knowsBy_6
def dkwX7_knowsBy_4 : List UInt8 := [184, 0, 159, 54, 10, 21, 9, 16, 6, 112, 3, 8, 184, 0, 159, 54, 11, 21, 10, 42, 180, 0, 69]
abbrev dktX7_knowsBy_4 : List UInt8 := dkwX7_knowsBy_4 ++ dktX7_knowsBy_5
def dkwX7_knowsBy_3 : List UInt8 := [21, 5, 4, 164, 0, 11, 21, 5, 16, 36, 108, 167, 0, 4, 4, 54, 5, 21, 9, 16, 6, 108, 3, 8]
abbrev dktX7_knowsBy_3 : List UInt8 := dkwX7_knowsBy_3 ++ dktX7_knowsBy_4
def dkwX7_knowsBy_2 : List UInt8 := [21, 4, 162, 0, 137, 21, 7, 153, 0, 132, 21, 6, 21, 5, 108, 54, 9, 21, 6, 21, 5, 112, 54, 6]
abbrev dktX7_knowsBy_2 : List UInt8 := dkwX7_knowsBy_2 ++ dktX7_knowsBy_3
def dkwX7_knowsBy_1 : List UInt8 := [167, 255, 239, 29, 54, 6, 4, 54, 7, 42, 3, 181, 0, 211, 42, 182, 0, 201, 3, 54, 8, 21, 8]
abbrev dktX7_knowsBy_1 : List UInt8 := dkwX7_knowsBy_1 ++ dktX7_knowsBy_2
def dkwX7_knowsBy_0 : List UInt8 := [4, 54, 5, 4, 54, 6, 21, 6, 21, 4, 162, 0, 16, 21, 5, 16, 36, 104, 54, 5, 132, 6, 1]
abbrev dktX7_knowsBy_0 : List UInt8 := dkwX7_knowsBy_0 ++ dktX7_knowsBy_1
theorem dksX7_knowsBy_0 : cX7_knowsBy.data.toList.drop 0 = dktX7_knowsBy_0 := by decide +kernel
theorem dksX7_knowsBy_1 : cX7_knowsBy.data.toList.drop 23 = dktX7_knowsBy_1 := dk_seg dksX7_knowsBy_0 23 rfl rfl
theorem dksX7_knowsBy_2 : cX7_knowsBy.data.toList.drop 46 = dktX7_knowsBy_2 := dk_seg dksX7_knowsBy_1 23 rfl rfl
theorem dksX7_knowsBy_3 : cX7_knowsBy.data.toList.drop 70 = dktX7_knowsBy_3 := dk_seg dksX7_knowsBy_2 24 rfl rfl
theorem dksX7_knowsBy_4 : cX7_knowsBy.data.toList.drop 94 = dktX7_knowsBy_4 := dk_seg dksX7_knowsBy_3 24 rfl rfl
theorem dksX7_knowsBy_5 : cX7_knowsBy.data.toList.drop 117 = dktX7_knowsBy_5 := dk_seg dksX7_knowsBy_4 23 rfl rfl
theorem dksX7_knowsBy_6 : cX7_knowsBy.data.toList.drop 141 = dktX7_knowsBy_6 := dk_seg dksX7_knowsBy_5 24 rfl rfl
theorem dksX7_knowsBy_7 : cX7_knowsBy.data.toList.drop 165 = dktX7_knowsBy_7 := dk_seg dksX7_knowsBy_6 24 rfl rfl
theorem dksX7_knowsBy_8 : cX7_knowsBy.data.toList.drop 187 = dktX7_knowsBy_8 := dk_seg dksX7_knowsBy_7 22 rfl rfl
theorem dksX7_knowsBy_9 : cX7_knowsBy.data.toList.drop 211 = dktX7_knowsBy_9 := dk_seg dksX7_knowsBy_8 24 rfl rfl
theorem dX7_knowsBy_0 : decode cX7_knowsBy 0 = .ok (.iconst 1, 1) := dk_4 (dk_at dksX7_knowsBy_0 0 rfl rfl)
theorem dX7_knowsBy_1 : decode cX7_knowsBy 1 = .ok (.istore 5, 2) := dk_54 5 (dk_at dksX7_knowsBy_0 1 rfl rfl)
theorem dX7_knowsBy_3 : decode cX7_knowsBy 3 = .ok (.iconst 1, 1) := dk_4 (dk_at dksX7_knowsBy_0 3 rfl rfl)
theorem dX7_knowsBy_4 : decode cX7_knowsBy 4 = .ok (.istore 6, 2) := dk_54 6 (dk_at dksX7_knowsBy_0 4 rfl rfl)
theorem dX7_knowsBy_6 : decode cX7_knowsBy 6 = .ok (.iload 6, 2) := dk_21 6 (dk_at dksX7_knowsBy_0 6 rfl rfl)
theorem dX7_knowsBy_8 : decode cX7_knowsBy 8 = .ok (.iload 4, 2) := dk_21 4 (dk_at dksX7_knowsBy_0 8 rfl rfl)
theorem dX7_knowsBy_10 : decode cX7_knowsBy 10 = .ok (.if_icmp .ge 16, 3) := dk_162 0 16 (dk_at dksX7_knowsBy_0 10 rfl rfl)
theorem dX7_knowsBy_13 : decode cX7_knowsBy 13 = .ok (.iload 5, 2) := dk_21 5 (dk_at dksX7_knowsBy_0 13 rfl rfl)
theorem dX7_knowsBy_15 : decode cX7_knowsBy 15 = .ok (.bipush 36, 2) := dk_16 36 (dk_at dksX7_knowsBy_0 15 rfl rfl)
theorem dX7_knowsBy_17 : decode cX7_knowsBy 17 = .ok (.imul, 1) := dk_104 (dk_at dksX7_knowsBy_0 17 rfl rfl)
theorem dX7_knowsBy_18 : decode cX7_knowsBy 18 = .ok (.istore 5, 2) := dk_54 5 (dk_at dksX7_knowsBy_0 18 rfl rfl)
theorem dX7_knowsBy_20 : decode cX7_knowsBy 20 = .ok (.iinc 6 1, 3) := dk_132 6 1 (dk_at dksX7_knowsBy_0 20 rfl rfl)
theorem dX7_knowsBy_23 : decode cX7_knowsBy 23 = .ok (.goto (-17), 3) := dk_167 255 239 (dk_at dksX7_knowsBy_1 0 rfl rfl)
theorem dX7_knowsBy_26 : decode cX7_knowsBy 26 = .ok (.iload_n 3, 1) := dk_29 (dk_at dksX7_knowsBy_1 3 rfl rfl)
theorem dX7_knowsBy_27 : decode cX7_knowsBy 27 = .ok (.istore 6, 2) := dk_54 6 (dk_at dksX7_knowsBy_1 4 rfl rfl)
theorem dX7_knowsBy_29 : decode cX7_knowsBy 29 = .ok (.iconst 1, 1) := dk_4 (dk_at dksX7_knowsBy_1 6 rfl rfl)
theorem dX7_knowsBy_30 : decode cX7_knowsBy 30 = .ok (.istore 7, 2) := dk_54 7 (dk_at dksX7_knowsBy_1 7 rfl rfl)
theorem dX7_knowsBy_32 : decode cX7_knowsBy 32 = .ok (.aload_n 0, 1) := dk_42 (dk_at dksX7_knowsBy_1 9 rfl rfl)
theorem dX7_knowsBy_33 : decode cX7_knowsBy 33 = .ok (.iconst 0, 1) := dk_3 (dk_at dksX7_knowsBy_1 10 rfl rfl)
theorem dX7_knowsBy_34 : decode cX7_knowsBy 34 = .ok (.putfield 211, 3) := dk_181 0 211 (dk_at dksX7_knowsBy_1 11 rfl rfl)
theorem dX7_knowsBy_37 : decode cX7_knowsBy 37 = .ok (.aload_n 0, 1) := dk_42 (dk_at dksX7_knowsBy_1 14 rfl rfl)
theorem dX7_knowsBy_38 : decode cX7_knowsBy 38 = .ok (.invokevirtual 201, 3) := dk_182 0 201 (dk_at dksX7_knowsBy_1 15 rfl rfl)
theorem dX7_knowsBy_41 : decode cX7_knowsBy 41 = .ok (.iconst 0, 1) := dk_3 (dk_at dksX7_knowsBy_1 18 rfl rfl)
theorem dX7_knowsBy_42 : decode cX7_knowsBy 42 = .ok (.istore 8, 2) := dk_54 8 (dk_at dksX7_knowsBy_1 19 rfl rfl)
theorem dX7_knowsBy_44 : decode cX7_knowsBy 44 = .ok (.iload 8, 2) := dk_21 8 (dk_at dksX7_knowsBy_1 21 rfl rfl)
theorem dX7_knowsBy_46 : decode cX7_knowsBy 46 = .ok (.iload 4, 2) := dk_21 4 (dk_at dksX7_knowsBy_2 0 rfl rfl)
theorem dX7_knowsBy_48 : decode cX7_knowsBy 48 = .ok (.if_icmp .ge 137, 3) := dk_162 0 137 (dk_at dksX7_knowsBy_2 2 rfl rfl)
theorem dX7_knowsBy_51 : decode cX7_knowsBy 51 = .ok (.iload 7, 2) := dk_21 7 (dk_at dksX7_knowsBy_2 5 rfl rfl)
theorem dX7_knowsBy_53 : decode cX7_knowsBy 53 = .ok (.ifCond .eq 132, 3) := dk_153 0 132 (dk_at dksX7_knowsBy_2 7 rfl rfl)
theorem dX7_knowsBy_56 : decode cX7_knowsBy 56 = .ok (.iload 6, 2) := dk_21 6 (dk_at dksX7_knowsBy_2 10 rfl rfl)
theorem dX7_knowsBy_58 : decode cX7_knowsBy 58 = .ok (.iload 5, 2) := dk_21 5 (dk_at dksX7_knowsBy_2 12 rfl rfl)
theorem dX7_knowsBy_60 : decode cX7_knowsBy 60 = .ok (.idiv, 1) := dk_108 (dk_at dksX7_knowsBy_2 14 rfl rfl)
theorem dX7_knowsBy_61 : decode cX7_knowsBy 61 = .ok (.istore 9, 2) := dk_54 9 (dk_at dksX7_knowsBy_2 15 rfl rfl)
theorem dX7_knowsBy_63 : decode cX7_knowsBy 63 = .ok (.iload 6, 2) := dk_21 6 (dk_at dksX7_knowsBy_2 17 rfl rfl)
theorem dX7_knowsBy_65 : decode cX7_knowsBy 65 = .ok (.iload 5, 2) := dk_21 5 (dk_at dksX7_knowsBy_2 19 rfl rfl)
theorem dX7_knowsBy_67 : decode cX7_knowsBy 67 = .ok (.irem, 1) := dk_112 (dk_at dksX7_knowsBy_2 21 rfl rfl)
theorem dX7_knowsBy_68 : decode cX7_knowsBy 68 = .ok (.istore 6, 2) := dk_54 6 (dk_at dksX7_knowsBy_2 22 rfl rfl)
theorem dX7_knowsBy_70 : decode cX7_knowsBy 70 = .ok (.iload 5, 2) := dk_21 5 (dk_at dksX7_knowsBy_3 0 rfl rfl)
theorem dX7_knowsBy_72 : decode cX7_knowsBy 72 = .ok (.iconst 1, 1) := dk_4 (dk_at dksX7_knowsBy_3 2 rfl rfl)
theorem dX7_knowsBy_73 : decode cX7_knowsBy 73 = .ok (.if_icmp .le 11, 3) := dk_164 0 11 (dk_at dksX7_knowsBy_3 3 rfl rfl)
theorem dX7_knowsBy_76 : decode cX7_knowsBy 76 = .ok (.iload 5, 2) := dk_21 5 (dk_at dksX7_knowsBy_3 6 rfl rfl)
theorem dX7_knowsBy_78 : decode cX7_knowsBy 78 = .ok (.bipush 36, 2) := dk_16 36 (dk_at dksX7_knowsBy_3 8 rfl rfl)
theorem dX7_knowsBy_80 : decode cX7_knowsBy 80 = .ok (.idiv, 1) := dk_108 (dk_at dksX7_knowsBy_3 10 rfl rfl)
theorem dX7_knowsBy_81 : decode cX7_knowsBy 81 = .ok (.goto 4, 3) := dk_167 0 4 (dk_at dksX7_knowsBy_3 11 rfl rfl)
theorem dX7_knowsBy_84 : decode cX7_knowsBy 84 = .ok (.iconst 1, 1) := dk_4 (dk_at dksX7_knowsBy_3 14 rfl rfl)
theorem dX7_knowsBy_85 : decode cX7_knowsBy 85 = .ok (.istore 5, 2) := dk_54 5 (dk_at dksX7_knowsBy_3 15 rfl rfl)
theorem dX7_knowsBy_87 : decode cX7_knowsBy 87 = .ok (.iload 9, 2) := dk_21 9 (dk_at dksX7_knowsBy_3 17 rfl rfl)
theorem dX7_knowsBy_89 : decode cX7_knowsBy 89 = .ok (.bipush 6, 2) := dk_16 6 (dk_at dksX7_knowsBy_3 19 rfl rfl)
theorem dX7_knowsBy_91 : decode cX7_knowsBy 91 = .ok (.idiv, 1) := dk_108 (dk_at dksX7_knowsBy_3 21 rfl rfl)
theorem dX7_knowsBy_92 : decode cX7_knowsBy 92 = .ok (.iconst 0, 1) := dk_3 (dk_at dksX7_knowsBy_3 22 rfl rfl)
theorem dX7_knowsBy_93 : decode cX7_knowsBy 93 = .ok (.iconst 5, 1) := dk_8 (dk_at dksX7_knowsBy_3 23 rfl rfl)
theorem dX7_knowsBy_94 : decode cX7_knowsBy 94 = .ok (.invokestatic 159, 3) := dk_184 0 159 (dk_at dksX7_knowsBy_4 0 rfl rfl)
theorem dX7_knowsBy_97 : decode cX7_knowsBy 97 = .ok (.istore 10, 2) := dk_54 10 (dk_at dksX7_knowsBy_4 3 rfl rfl)
theorem dX7_knowsBy_99 : decode cX7_knowsBy 99 = .ok (.iload 9, 2) := dk_21 9 (dk_at dksX7_knowsBy_4 5 rfl rfl)
theorem dX7_knowsBy_101 : decode cX7_knowsBy 101 = .ok (.bipush 6, 2) := dk_16 6 (dk_at dksX7_knowsBy_4 7 rfl rfl)
theorem dX7_knowsBy_103 : decode cX7_knowsBy 103 = .ok (.irem, 1) := dk_112 (dk_at dksX7_knowsBy_4 9 rfl rfl)
theorem dX7_knowsBy_104 : decode cX7_knowsBy 104 = .ok (.iconst 0, 1) := dk_3 (dk_at dksX7_knowsBy_4 10 rfl rfl)
theorem dX7_knowsBy_105 : decode cX7_knowsBy 105 = .ok (.iconst 5, 1) := dk_8 (dk_at dksX7_knowsBy_4 11 rfl rfl)
theorem dX7_knowsBy_106 : decode cX7_knowsBy 106 = .ok (.invokestatic 159, 3) := dk_184 0 159 (dk_at dksX7_knowsBy_4 12 rfl rfl)
theorem dX7_knowsBy_109 : decode cX7_knowsBy 109 = .ok (.istore 11, 2) := dk_54 11 (dk_at dksX7_knowsBy_4 15 rfl rfl)
theorem dX7_knowsBy_111 : decode cX7_knowsBy 111 = .ok (.iload 10, 2) := dk_21 10 (dk_at dksX7_knowsBy_4 17 rfl rfl)
theorem dX7_knowsBy_113 : decode cX7_knowsBy 113 = .ok (.aload_n 0, 1) := dk_42 (dk_at dksX7_knowsBy_4 19 rfl rfl)
theorem dX7_knowsBy_114 : decode cX7_knowsBy 114 = .ok (.getfield 69, 3) := dk_180 0 69 (dk_at dksX7_knowsBy_4 20 rfl rfl)
theorem dX7_knowsBy_117 : decode cX7_knowsBy 117 = .ok (.if_icmp .ge 23, 3) := dk_162 0 23 (dk_at dksX7_knowsBy_5 0 rfl rfl)
theorem dX7_knowsBy_120 : decode cX7_knowsBy 120 = .ok (.iload 11, 2) := dk_21 11 (dk_at dksX7_knowsBy_5 3 rfl rfl)
theorem dX7_knowsBy_122 : decode cX7_knowsBy 122 = .ok (.aload_n 0, 1) := dk_42 (dk_at dksX7_knowsBy_5 5 rfl rfl)
theorem dX7_knowsBy_123 : decode cX7_knowsBy 123 = .ok (.getfield 69, 3) := dk_180 0 69 (dk_at dksX7_knowsBy_5 6 rfl rfl)
theorem dX7_knowsBy_126 : decode cX7_knowsBy 126 = .ok (.if_icmp .ge 14, 3) := dk_162 0 14 (dk_at dksX7_knowsBy_5 9 rfl rfl)
theorem dX7_knowsBy_129 : decode cX7_knowsBy 129 = .ok (.iload 10, 2) := dk_21 10 (dk_at dksX7_knowsBy_5 12 rfl rfl)
theorem dX7_knowsBy_131 : decode cX7_knowsBy 131 = .ok (.iload 11, 2) := dk_21 11 (dk_at dksX7_knowsBy_5 14 rfl rfl)
theorem dX7_knowsBy_133 : decode cX7_knowsBy 133 = .ok (.if_icmp .eq 7, 3) := dk_159 0 7 (dk_at dksX7_knowsBy_5 16 rfl rfl)
theorem dX7_knowsBy_136 : decode cX7_knowsBy 136 = .ok (.iconst 1, 1) := dk_4 (dk_at dksX7_knowsBy_5 19 rfl rfl)
theorem dX7_knowsBy_137 : decode cX7_knowsBy 137 = .ok (.goto 4, 3) := dk_167 0 4 (dk_at dksX7_knowsBy_5 20 rfl rfl)
theorem dX7_knowsBy_140 : decode cX7_knowsBy 140 = .ok (.iconst 0, 1) := dk_3 (dk_at dksX7_knowsBy_5 23 rfl rfl)
theorem dX7_knowsBy_141 : decode cX7_knowsBy 141 = .ok (.istore 7, 2) := dk_54 7 (dk_at dksX7_knowsBy_6 0 rfl rfl)
theorem dX7_knowsBy_143 : decode cX7_knowsBy 143 = .ok (.iload 7, 2) := dk_21 7 (dk_at dksX7_knowsBy_6 2 rfl rfl)
theorem dX7_knowsBy_145 : decode cX7_knowsBy 145 = .ok (.ifCond .eq 34, 3) := dk_153 0 34 (dk_at dksX7_knowsBy_6 4 rfl rfl)
theorem dX7_knowsBy_148 : decode cX7_knowsBy 148 = .ok (.aload_n 0, 1) := dk_42 (dk_at dksX7_knowsBy_6 7 rfl rfl)
theorem dX7_knowsBy_149 : decode cX7_knowsBy 149 = .ok (.iload 10, 2) := dk_21 10 (dk_at dksX7_knowsBy_6 8 rfl rfl)
theorem dX7_knowsBy_151 : decode cX7_knowsBy 151 = .ok (.iload 11, 2) := dk_21 11 (dk_at dksX7_knowsBy_6 10 rfl rfl)
theorem dX7_knowsBy_153 : decode cX7_knowsBy 153 = .ok (.invokevirtual 186, 3) := dk_182 0 186 (dk_at dksX7_knowsBy_6 12 rfl rfl)
theorem dX7_knowsBy_156 : decode cX7_knowsBy 156 = .ok (.pop, 1) := dk_87 (dk_at dksX7_knowsBy_6 15 rfl rfl)
theorem dX7_knowsBy_157 : decode cX7_knowsBy 157 = .ok (.aload_n 0, 1) := dk_42 (dk_at dksX7_knowsBy_6 16 rfl rfl)
theorem dX7_knowsBy_158 : decode cX7_knowsBy 158 = .ok (.bipush 100, 2) := dk_16 100 (dk_at dksX7_knowsBy_6 17 rfl rfl)
theorem dX7_knowsBy_160 : decode cX7_knowsBy 160 = .ok (.aload_n 0, 1) := dk_42 (dk_at dksX7_knowsBy_6 19 rfl rfl)
theorem dX7_knowsBy_161 : decode cX7_knowsBy 161 = .ok (.getfield 211, 3) := dk_180 0 211 (dk_at dksX7_knowsBy_6 20 rfl rfl)
theorem dX7_knowsBy_164 : decode cX7_knowsBy 164 = .ok (.imul, 1) := dk_104 (dk_at dksX7_knowsBy_6 23 rfl rfl)
theorem dX7_knowsBy_165 : decode cX7_knowsBy 165 = .ok (.bipush 10, 2) := dk_16 10 (dk_at dksX7_knowsBy_7 0 rfl rfl)
theorem dX7_knowsBy_167 : decode cX7_knowsBy 167 = .ok (.iload 10, 2) := dk_21 10 (dk_at dksX7_knowsBy_7 2 rfl rfl)
theorem dX7_knowsBy_169 : decode cX7_knowsBy 169 = .ok (.imul, 1) := dk_104 (dk_at dksX7_knowsBy_7 4 rfl rfl)
theorem dX7_knowsBy_170 : decode cX7_knowsBy 170 = .ok (.iadd, 1) := dk_96 (dk_at dksX7_knowsBy_7 5 rfl rfl)
theorem dX7_knowsBy_171 : decode cX7_knowsBy 171 = .ok (.iload 11, 2) := dk_21 11 (dk_at dksX7_knowsBy_7 6 rfl rfl)
theorem dX7_knowsBy_173 : decode cX7_knowsBy 173 = .ok (.iadd, 1) := dk_96 (dk_at dksX7_knowsBy_7 8 rfl rfl)
theorem dX7_knowsBy_174 : decode cX7_knowsBy 174 = .ok (.iconst 1, 1) := dk_4 (dk_at dksX7_knowsBy_7 9 rfl rfl)
theorem dX7_knowsBy_175 : decode cX7_knowsBy 175 = .ok (.iadd, 1) := dk_96 (dk_at dksX7_knowsBy_7 10 rfl rfl)
theorem dX7_knowsBy_176 : decode cX7_knowsBy 176 = .ok (.putfield 211, 3) := dk_181 0 211 (dk_at dksX7_knowsBy_7 11 rfl rfl)
theorem dX7_knowsBy_179 : decode cX7_knowsBy 179 = .ok (.iinc 8 1, 3) := dk_132 8 1 (dk_at dksX7_knowsBy_7 14 rfl rfl)
theorem dX7_knowsBy_182 : decode cX7_knowsBy 182 = .ok (.goto (-138), 3) := dk_167 255 118 (dk_at dksX7_knowsBy_7 17 rfl rfl)
theorem dX7_knowsBy_185 : decode cX7_knowsBy 185 = .ok (.iload 7, 2) := dk_21 7 (dk_at dksX7_knowsBy_7 20 rfl rfl)
theorem dX7_knowsBy_187 : decode cX7_knowsBy 187 = .ok (.ifCond .eq 23, 3) := dk_153 0 23 (dk_at dksX7_knowsBy_8 0 rfl rfl)
theorem dX7_knowsBy_190 : decode cX7_knowsBy 190 = .ok (.aload_n 0, 1) := dk_42 (dk_at dksX7_knowsBy_8 3 rfl rfl)
theorem dX7_knowsBy_191 : decode cX7_knowsBy 191 = .ok (.getfield 16, 3) := dk_180 0 16 (dk_at dksX7_knowsBy_8 4 rfl rfl)
theorem dX7_knowsBy_194 : decode cX7_knowsBy 194 = .ok (.iconst 3, 1) := dk_6 (dk_at dksX7_knowsBy_8 7 rfl rfl)
theorem dX7_knowsBy_195 : decode cX7_knowsBy 195 = .ok (.iload_n 1, 1) := dk_27 (dk_at dksX7_knowsBy_8 8 rfl rfl)
theorem dX7_knowsBy_196 : decode cX7_knowsBy 196 = .ok (.imul, 1) := dk_104 (dk_at dksX7_knowsBy_8 9 rfl rfl)
theorem dX7_knowsBy_197 : decode cX7_knowsBy 197 = .ok (.iaload, 1) := dk_46 (dk_at dksX7_knowsBy_8 10 rfl rfl)
theorem dX7_knowsBy_198 : decode cX7_knowsBy 198 = .ok (.iload_n 2, 1) := dk_28 (dk_at dksX7_knowsBy_8 11 rfl rfl)
theorem dX7_knowsBy_199 : decode cX7_knowsBy 199 = .ok (.ishr, 1) := dk_122 (dk_at dksX7_knowsBy_8 12 rfl rfl)
theorem dX7_knowsBy_200 : decode cX7_knowsBy 200 = .ok (.iconst 1, 1) := dk_4 (dk_at dksX7_knowsBy_8 13 rfl rfl)
theorem dX7_knowsBy_201 : decode cX7_knowsBy 201 = .ok (.iand, 1) := dk_126 (dk_at dksX7_knowsBy_8 14 rfl rfl)
theorem dX7_knowsBy_202 : decode cX7_knowsBy 202 = .ok (.iconst 1, 1) := dk_4 (dk_at dksX7_knowsBy_8 15 rfl rfl)
theorem dX7_knowsBy_203 : decode cX7_knowsBy 203 = .ok (.if_icmp .ne 7, 3) := dk_160 0 7 (dk_at dksX7_knowsBy_8 16 rfl rfl)
theorem dX7_knowsBy_206 : decode cX7_knowsBy 206 = .ok (.iconst 1, 1) := dk_4 (dk_at dksX7_knowsBy_8 19 rfl rfl)
theorem dX7_knowsBy_207 : decode cX7_knowsBy 207 = .ok (.goto 4, 3) := dk_167 0 4 (dk_at dksX7_knowsBy_8 20 rfl rfl)
theorem dX7_knowsBy_210 : decode cX7_knowsBy 210 = .ok (.iconst 0, 1) := dk_3 (dk_at dksX7_knowsBy_8 23 rfl rfl)
theorem dX7_knowsBy_211 : decode cX7_knowsBy 211 = .ok (.istore 7, 2) := dk_54 7 (dk_at dksX7_knowsBy_9 0 rfl rfl)
theorem dX7_knowsBy_213 : decode cX7_knowsBy 213 = .ok (.aload_n 0, 1) := dk_42 (dk_at dksX7_knowsBy_9 2 rfl rfl)
theorem dX7_knowsBy_214 : decode cX7_knowsBy 214 = .ok (.invokevirtual 208, 3) := dk_182 0 208 (dk_at dksX7_knowsBy_9 3 rfl rfl)
theorem dX7_knowsBy_217 : decode cX7_knowsBy 217 = .ok (.iload 7, 2) := dk_21 7 (dk_at dksX7_knowsBy_9 6 rfl rfl)
theorem dX7_knowsBy_219 : decode cX7_knowsBy 219 = .ok (.ireturn, 1) := dk_172 (dk_at dksX7_knowsBy_9 8 rfl rfl)
abbrev cX7_when : ByteArray := prog_19_method_56_code
def yX7_when : MethodName := ⟨RX7, "when", "(I)I"⟩
def dkwX7_when_2 : List UInt8 := [182, 0, 189, 87, 132, 3, 1, 167, 255, 223, 42, 182, 0, 208, 28, 172]
abbrev dktX7_when_2 : List UInt8 := dkwX7_when_2 ++ []
def dkwX7_when_1 : List UInt8 := [163, 0, 33, 28, 2, 160, 0, 28, 42, 27, 182, 0, 221, 153, 0, 7, 29, 167, 0, 4, 2, 61, 42]
abbrev dktX7_when_1 : List UInt8 := dkwX7_when_1 ++ dktX7_when_2
def dkwX7_when_0 : List UInt8 := [27, 2, 16, 15, 184, 0, 72, 154, 0, 6, 16, 254, 172, 2, 61, 42, 182, 0, 201, 3, 62, 29, 16, 60]
abbrev dktX7_when_0 : List UInt8 := dkwX7_when_0 ++ dktX7_when_1
theorem dksX7_when_0 : cX7_when.data.toList.drop 0 = dktX7_when_0 := by decide +kernel
theorem dksX7_when_1 : cX7_when.data.toList.drop 24 = dktX7_when_1 := dk_seg dksX7_when_0 24 rfl rfl
theorem dksX7_when_2 : cX7_when.data.toList.drop 47 = dktX7_when_2 := dk_seg dksX7_when_1 23 rfl rfl
theorem dX7_when_0 : decode cX7_when 0 = .ok (.iload_n 1, 1) := dk_27 (dk_at dksX7_when_0 0 rfl rfl)
theorem dX7_when_1 : decode cX7_when 1 = .ok (.iconst (-1), 1) := dk_2 (dk_at dksX7_when_0 1 rfl rfl)
theorem dX7_when_2 : decode cX7_when 2 = .ok (.bipush 15, 2) := dk_16 15 (dk_at dksX7_when_0 2 rfl rfl)
theorem dX7_when_4 : decode cX7_when 4 = .ok (.invokestatic 72, 3) := dk_184 0 72 (dk_at dksX7_when_0 4 rfl rfl)
theorem dX7_when_7 : decode cX7_when 7 = .ok (.ifCond .ne 6, 3) := dk_154 0 6 (dk_at dksX7_when_0 7 rfl rfl)
theorem dX7_when_10 : decode cX7_when 10 = .ok (.bipush (-2), 2) := dk_16 254 (dk_at dksX7_when_0 10 rfl rfl)
theorem dX7_when_12 : decode cX7_when 12 = .ok (.ireturn, 1) := dk_172 (dk_at dksX7_when_0 12 rfl rfl)
theorem dX7_when_13 : decode cX7_when 13 = .ok (.iconst (-1), 1) := dk_2 (dk_at dksX7_when_0 13 rfl rfl)
theorem dX7_when_14 : decode cX7_when 14 = .ok (.istore_n 2, 1) := dk_61 (dk_at dksX7_when_0 14 rfl rfl)
theorem dX7_when_15 : decode cX7_when 15 = .ok (.aload_n 0, 1) := dk_42 (dk_at dksX7_when_0 15 rfl rfl)
theorem dX7_when_16 : decode cX7_when 16 = .ok (.invokevirtual 201, 3) := dk_182 0 201 (dk_at dksX7_when_0 16 rfl rfl)
theorem dX7_when_19 : decode cX7_when 19 = .ok (.iconst 0, 1) := dk_3 (dk_at dksX7_when_0 19 rfl rfl)
theorem dX7_when_20 : decode cX7_when 20 = .ok (.istore_n 3, 1) := dk_62 (dk_at dksX7_when_0 20 rfl rfl)
theorem dX7_when_21 : decode cX7_when 21 = .ok (.iload_n 3, 1) := dk_29 (dk_at dksX7_when_0 21 rfl rfl)
theorem dX7_when_22 : decode cX7_when 22 = .ok (.bipush 60, 2) := dk_16 60 (dk_at dksX7_when_0 22 rfl rfl)
theorem dX7_when_24 : decode cX7_when 24 = .ok (.if_icmp .gt 33, 3) := dk_163 0 33 (dk_at dksX7_when_1 0 rfl rfl)
theorem dX7_when_27 : decode cX7_when 27 = .ok (.iload_n 2, 1) := dk_28 (dk_at dksX7_when_1 3 rfl rfl)
theorem dX7_when_28 : decode cX7_when 28 = .ok (.iconst (-1), 1) := dk_2 (dk_at dksX7_when_1 4 rfl rfl)
theorem dX7_when_29 : decode cX7_when 29 = .ok (.if_icmp .ne 28, 3) := dk_160 0 28 (dk_at dksX7_when_1 5 rfl rfl)
theorem dX7_when_32 : decode cX7_when 32 = .ok (.aload_n 0, 1) := dk_42 (dk_at dksX7_when_1 8 rfl rfl)
theorem dX7_when_33 : decode cX7_when 33 = .ok (.iload_n 1, 1) := dk_27 (dk_at dksX7_when_1 9 rfl rfl)
theorem dX7_when_34 : decode cX7_when 34 = .ok (.invokevirtual 221, 3) := dk_182 0 221 (dk_at dksX7_when_1 10 rfl rfl)
theorem dX7_when_37 : decode cX7_when 37 = .ok (.ifCond .eq 7, 3) := dk_153 0 7 (dk_at dksX7_when_1 13 rfl rfl)
theorem dX7_when_40 : decode cX7_when 40 = .ok (.iload_n 3, 1) := dk_29 (dk_at dksX7_when_1 16 rfl rfl)
theorem dX7_when_41 : decode cX7_when 41 = .ok (.goto 4, 3) := dk_167 0 4 (dk_at dksX7_when_1 17 rfl rfl)
theorem dX7_when_44 : decode cX7_when 44 = .ok (.iconst (-1), 1) := dk_2 (dk_at dksX7_when_1 20 rfl rfl)
theorem dX7_when_45 : decode cX7_when 45 = .ok (.istore_n 2, 1) := dk_61 (dk_at dksX7_when_1 21 rfl rfl)
theorem dX7_when_46 : decode cX7_when 46 = .ok (.aload_n 0, 1) := dk_42 (dk_at dksX7_when_1 22 rfl rfl)
theorem dX7_when_47 : decode cX7_when 47 = .ok (.invokevirtual 189, 3) := dk_182 0 189 (dk_at dksX7_when_2 0 rfl rfl)
theorem dX7_when_50 : decode cX7_when 50 = .ok (.pop, 1) := dk_87 (dk_at dksX7_when_2 3 rfl rfl)
theorem dX7_when_51 : decode cX7_when 51 = .ok (.iinc 3 1, 3) := dk_132 3 1 (dk_at dksX7_when_2 4 rfl rfl)
theorem dX7_when_54 : decode cX7_when 54 = .ok (.goto (-33), 3) := dk_167 255 223 (dk_at dksX7_when_2 7 rfl rfl)
theorem dX7_when_57 : decode cX7_when 57 = .ok (.aload_n 0, 1) := dk_42 (dk_at dksX7_when_2 10 rfl rfl)
theorem dX7_when_58 : decode cX7_when 58 = .ok (.invokevirtual 208, 3) := dk_182 0 208 (dk_at dksX7_when_2 11 rfl rfl)
theorem dX7_when_61 : decode cX7_when 61 = .ok (.iload_n 2, 1) := dk_28 (dk_at dksX7_when_2 14 rfl rfl)
theorem dX7_when_62 : decode cX7_when 62 = .ok (.ireturn, 1) := dk_172 (dk_at dksX7_when_2 15 rfl rfl)
abbrev cX7_isNow : ByteArray := prog_19_method_55_code
def yX7_isNow : MethodName := ⟨RX7, "isNow", "(I)Z"⟩
def dkwX7_isNow_2 : List UInt8 := [132, 2, 1, 167, 255, 227, 3, 172]
abbrev dktX7_isNow_2 : List UInt8 := dkwX7_isNow_2 ++ []
def dkwX7_isNow_1 : List UInt8 := [180, 0, 69, 162, 0, 27, 42, 180, 0, 16, 6, 28, 104, 46, 27, 122, 4, 126, 4, 160, 0, 5, 4, 172]
abbrev dktX7_isNow_1 : List UInt8 := dkwX7_isNow_1 ++ dktX7_isNow_2
def dkwX7_isNow_0 : List UInt8 := [27, 2, 160, 0, 16, 42, 180, 0, 76, 154, 0, 7, 4, 167, 0, 4, 3, 172, 3, 61, 28, 42]
abbrev dktX7_isNow_0 : List UInt8 := dkwX7_isNow_0 ++ dktX7_isNow_1
theorem dksX7_isNow_0 : cX7_isNow.data.toList.drop 0 = dktX7_isNow_0 := by decide +kernel
theorem dksX7_isNow_1 : cX7_isNow.data.toList.drop 22 = dktX7_isNow_1 := dk_seg dksX7_isNow_0 22 rfl rfl
theorem dksX7_isNow_2 : cX7_isNow.data.toList.drop 46 = dktX7_isNow_2 := dk_seg dksX7_isNow_1 24 rfl rfl
theorem dX7_isNow_0 : decode cX7_isNow 0 = .ok (.iload_n 1, 1) := dk_27 (dk_at dksX7_isNow_0 0 rfl rfl)
theorem dX7_isNow_1 : decode cX7_isNow 1 = .ok (.iconst (-1), 1) := dk_2 (dk_at dksX7_isNow_0 1 rfl rfl)
theorem dX7_isNow_2 : decode cX7_isNow 2 = .ok (.if_icmp .ne 16, 3) := dk_160 0 16 (dk_at dksX7_isNow_0 2 rfl rfl)
theorem dX7_isNow_5 : decode cX7_isNow 5 = .ok (.aload_n 0, 1) := dk_42 (dk_at dksX7_isNow_0 5 rfl rfl)
theorem dX7_isNow_6 : decode cX7_isNow 6 = .ok (.getfield 76, 3) := dk_180 0 76 (dk_at dksX7_isNow_0 6 rfl rfl)
theorem dX7_isNow_9 : decode cX7_isNow 9 = .ok (.ifCond .ne 7, 3) := dk_154 0 7 (dk_at dksX7_isNow_0 9 rfl rfl)
theorem dX7_isNow_12 : decode cX7_isNow 12 = .ok (.iconst 1, 1) := dk_4 (dk_at dksX7_isNow_0 12 rfl rfl)
theorem dX7_isNow_13 : decode cX7_isNow 13 = .ok (.goto 4, 3) := dk_167 0 4 (dk_at dksX7_isNow_0 13 rfl rfl)
theorem dX7_isNow_16 : decode cX7_isNow 16 = .ok (.iconst 0, 1) := dk_3 (dk_at dksX7_isNow_0 16 rfl rfl)
theorem dX7_isNow_17 : decode cX7_isNow 17 = .ok (.ireturn, 1) := dk_172 (dk_at dksX7_isNow_0 17 rfl rfl)
theorem dX7_isNow_18 : decode cX7_isNow 18 = .ok (.iconst 0, 1) := dk_3 (dk_at dksX7_isNow_0 18 rfl rfl)
theorem dX7_isNow_19 : decode cX7_isNow 19 = .ok (.istore_n 2, 1) := dk_61 (dk_at dksX7_isNow_0 19 rfl rfl)
theorem dX7_isNow_20 : decode cX7_isNow 20 = .ok (.iload_n 2, 1) := dk_28 (dk_at dksX7_isNow_0 20 rfl rfl)
theorem dX7_isNow_21 : decode cX7_isNow 21 = .ok (.aload_n 0, 1) := dk_42 (dk_at dksX7_isNow_0 21 rfl rfl)
theorem dX7_isNow_22 : decode cX7_isNow 22 = .ok (.getfield 69, 3) := dk_180 0 69 (dk_at dksX7_isNow_1 0 rfl rfl)
theorem dX7_isNow_25 : decode cX7_isNow 25 = .ok (.if_icmp .ge 27, 3) := dk_162 0 27 (dk_at dksX7_isNow_1 3 rfl rfl)
theorem dX7_isNow_28 : decode cX7_isNow 28 = .ok (.aload_n 0, 1) := dk_42 (dk_at dksX7_isNow_1 6 rfl rfl)
theorem dX7_isNow_29 : decode cX7_isNow 29 = .ok (.getfield 16, 3) := dk_180 0 16 (dk_at dksX7_isNow_1 7 rfl rfl)
theorem dX7_isNow_32 : decode cX7_isNow 32 = .ok (.iconst 3, 1) := dk_6 (dk_at dksX7_isNow_1 10 rfl rfl)
theorem dX7_isNow_33 : decode cX7_isNow 33 = .ok (.iload_n 2, 1) := dk_28 (dk_at dksX7_isNow_1 11 rfl rfl)
theorem dX7_isNow_34 : decode cX7_isNow 34 = .ok (.imul, 1) := dk_104 (dk_at dksX7_isNow_1 12 rfl rfl)
theorem dX7_isNow_35 : decode cX7_isNow 35 = .ok (.iaload, 1) := dk_46 (dk_at dksX7_isNow_1 13 rfl rfl)
theorem dX7_isNow_36 : decode cX7_isNow 36 = .ok (.iload_n 1, 1) := dk_27 (dk_at dksX7_isNow_1 14 rfl rfl)
theorem dX7_isNow_37 : decode cX7_isNow 37 = .ok (.ishr, 1) := dk_122 (dk_at dksX7_isNow_1 15 rfl rfl)
theorem dX7_isNow_38 : decode cX7_isNow 38 = .ok (.iconst 1, 1) := dk_4 (dk_at dksX7_isNow_1 16 rfl rfl)
theorem dX7_isNow_39 : decode cX7_isNow 39 = .ok (.iand, 1) := dk_126 (dk_at dksX7_isNow_1 17 rfl rfl)
theorem dX7_isNow_40 : decode cX7_isNow 40 = .ok (.iconst 1, 1) := dk_4 (dk_at dksX7_isNow_1 18 rfl rfl)
theorem dX7_isNow_41 : decode cX7_isNow 41 = .ok (.if_icmp .ne 5, 3) := dk_160 0 5 (dk_at dksX7_isNow_1 19 rfl rfl)
theorem dX7_isNow_44 : decode cX7_isNow 44 = .ok (.iconst 1, 1) := dk_4 (dk_at dksX7_isNow_1 22 rfl rfl)
theorem dX7_isNow_45 : decode cX7_isNow 45 = .ok (.ireturn, 1) := dk_172 (dk_at dksX7_isNow_1 23 rfl rfl)
theorem dX7_isNow_46 : decode cX7_isNow 46 = .ok (.iinc 2 1, 3) := dk_132 2 1 (dk_at dksX7_isNow_2 0 rfl rfl)
theorem dX7_isNow_49 : decode cX7_isNow 49 = .ok (.goto (-29), 3) := dk_167 255 227 (dk_at dksX7_isNow_2 3 rfl rfl)
theorem dX7_isNow_52 : decode cX7_isNow 52 = .ok (.iconst 0, 1) := dk_3 (dk_at dksX7_isNow_2 6 rfl rfl)
theorem dX7_isNow_53 : decode cX7_isNow 53 = .ok (.ireturn, 1) := dk_172 (dk_at dksX7_isNow_2 7 rfl rfl)
abbrev cX7_share : ByteArray := prog_19_method_58_code
def yX7_share : MethodName := ⟨RX7, "share", "(II)J"⟩
def dkwX7_share_3 : List UInt8 := [184, 0, 226, 173]
abbrev dktX7_share_3 : List UInt8 := dkwX7_share_3 ++ []
def dkwX7_share_2 : List UInt8 := [6, 27, 104, 46, 126, 184, 0, 79, 133, 42, 180, 0, 16, 6, 27, 104, 4, 96, 46, 184, 0, 79, 133, 28]
abbrev dktX7_share_2 : List UInt8 := dkwX7_share_2 ++ dktX7_share_3
def dkwX7_share_1 : List UInt8 := [4, 96, 46, 154, 0, 7, 20, 0, 224, 173, 42, 180, 0, 16, 6, 27, 104, 4, 96, 46, 42, 180, 0, 16]
abbrev dktX7_share_1 : List UInt8 := dkwX7_share_1 ++ dktX7_share_2
def dkwX7_share_0 : List UInt8 := [42, 27, 182, 0, 162, 153, 0, 25, 28, 3, 4, 184, 0, 72, 153, 0, 16, 42, 180, 0, 16, 6, 27, 104]
abbrev dktX7_share_0 : List UInt8 := dkwX7_share_0 ++ dktX7_share_1
theorem dksX7_share_0 : cX7_share.data.toList.drop 0 = dktX7_share_0 := by decide +kernel
theorem dksX7_share_1 : cX7_share.data.toList.drop 24 = dktX7_share_1 := dk_seg dksX7_share_0 24 rfl rfl
theorem dksX7_share_2 : cX7_share.data.toList.drop 48 = dktX7_share_2 := dk_seg dksX7_share_1 24 rfl rfl
theorem dksX7_share_3 : cX7_share.data.toList.drop 72 = dktX7_share_3 := dk_seg dksX7_share_2 24 rfl rfl
theorem dX7_share_0 : decode cX7_share 0 = .ok (.aload_n 0, 1) := dk_42 (dk_at dksX7_share_0 0 rfl rfl)
theorem dX7_share_1 : decode cX7_share 1 = .ok (.iload_n 1, 1) := dk_27 (dk_at dksX7_share_0 1 rfl rfl)
theorem dX7_share_2 : decode cX7_share 2 = .ok (.invokevirtual 162, 3) := dk_182 0 162 (dk_at dksX7_share_0 2 rfl rfl)
theorem dX7_share_5 : decode cX7_share 5 = .ok (.ifCond .eq 25, 3) := dk_153 0 25 (dk_at dksX7_share_0 5 rfl rfl)
theorem dX7_share_8 : decode cX7_share 8 = .ok (.iload_n 2, 1) := dk_28 (dk_at dksX7_share_0 8 rfl rfl)
theorem dX7_share_9 : decode cX7_share 9 = .ok (.iconst 0, 1) := dk_3 (dk_at dksX7_share_0 9 rfl rfl)
theorem dX7_share_10 : decode cX7_share 10 = .ok (.iconst 1, 1) := dk_4 (dk_at dksX7_share_0 10 rfl rfl)
theorem dX7_share_11 : decode cX7_share 11 = .ok (.invokestatic 72, 3) := dk_184 0 72 (dk_at dksX7_share_0 11 rfl rfl)
theorem dX7_share_14 : decode cX7_share 14 = .ok (.ifCond .eq 16, 3) := dk_153 0 16 (dk_at dksX7_share_0 14 rfl rfl)
theorem dX7_share_17 : decode cX7_share 17 = .ok (.aload_n 0, 1) := dk_42 (dk_at dksX7_share_0 17 rfl rfl)
theorem dX7_share_18 : decode cX7_share 18 = .ok (.getfield 16, 3) := dk_180 0 16 (dk_at dksX7_share_0 18 rfl rfl)
theorem dX7_share_21 : decode cX7_share 21 = .ok (.iconst 3, 1) := dk_6 (dk_at dksX7_share_0 21 rfl rfl)
theorem dX7_share_22 : decode cX7_share 22 = .ok (.iload_n 1, 1) := dk_27 (dk_at dksX7_share_0 22 rfl rfl)
theorem dX7_share_23 : decode cX7_share 23 = .ok (.imul, 1) := dk_104 (dk_at dksX7_share_0 23 rfl rfl)
theorem dX7_share_24 : decode cX7_share 24 = .ok (.iconst 1, 1) := dk_4 (dk_at dksX7_share_1 0 rfl rfl)
theorem dX7_share_25 : decode cX7_share 25 = .ok (.iadd, 1) := dk_96 (dk_at dksX7_share_1 1 rfl rfl)
theorem dX7_share_26 : decode cX7_share 26 = .ok (.iaload, 1) := dk_46 (dk_at dksX7_share_1 2 rfl rfl)
theorem dX7_share_27 : decode cX7_share 27 = .ok (.ifCond .ne 7, 3) := dk_154 0 7 (dk_at dksX7_share_1 3 rfl rfl)
theorem dX7_share_30 : decode cX7_share 30 = .ok (.ldc2_w 224, 3) := dk_20 0 224 (dk_at dksX7_share_1 6 rfl rfl)
theorem dX7_share_33 : decode cX7_share 33 = .ok (.lreturn, 1) := dk_173 (dk_at dksX7_share_1 9 rfl rfl)
theorem dX7_share_34 : decode cX7_share 34 = .ok (.aload_n 0, 1) := dk_42 (dk_at dksX7_share_1 10 rfl rfl)
theorem dX7_share_35 : decode cX7_share 35 = .ok (.getfield 16, 3) := dk_180 0 16 (dk_at dksX7_share_1 11 rfl rfl)
theorem dX7_share_38 : decode cX7_share 38 = .ok (.iconst 3, 1) := dk_6 (dk_at dksX7_share_1 14 rfl rfl)
theorem dX7_share_39 : decode cX7_share 39 = .ok (.iload_n 1, 1) := dk_27 (dk_at dksX7_share_1 15 rfl rfl)
theorem dX7_share_40 : decode cX7_share 40 = .ok (.imul, 1) := dk_104 (dk_at dksX7_share_1 16 rfl rfl)
theorem dX7_share_41 : decode cX7_share 41 = .ok (.iconst 1, 1) := dk_4 (dk_at dksX7_share_1 17 rfl rfl)
theorem dX7_share_42 : decode cX7_share 42 = .ok (.iadd, 1) := dk_96 (dk_at dksX7_share_1 18 rfl rfl)
theorem dX7_share_43 : decode cX7_share 43 = .ok (.iaload, 1) := dk_46 (dk_at dksX7_share_1 19 rfl rfl)
theorem dX7_share_44 : decode cX7_share 44 = .ok (.aload_n 0, 1) := dk_42 (dk_at dksX7_share_1 20 rfl rfl)
theorem dX7_share_45 : decode cX7_share 45 = .ok (.getfield 16, 3) := dk_180 0 16 (dk_at dksX7_share_1 21 rfl rfl)
theorem dX7_share_48 : decode cX7_share 48 = .ok (.iconst 3, 1) := dk_6 (dk_at dksX7_share_2 0 rfl rfl)
theorem dX7_share_49 : decode cX7_share 49 = .ok (.iload_n 1, 1) := dk_27 (dk_at dksX7_share_2 1 rfl rfl)
theorem dX7_share_50 : decode cX7_share 50 = .ok (.imul, 1) := dk_104 (dk_at dksX7_share_2 2 rfl rfl)
theorem dX7_share_51 : decode cX7_share 51 = .ok (.iaload, 1) := dk_46 (dk_at dksX7_share_2 3 rfl rfl)
theorem dX7_share_52 : decode cX7_share 52 = .ok (.iand, 1) := dk_126 (dk_at dksX7_share_2 4 rfl rfl)
theorem dX7_share_53 : decode cX7_share 53 = .ok (.invokestatic 79, 3) := dk_184 0 79 (dk_at dksX7_share_2 5 rfl rfl)
theorem dX7_share_56 : decode cX7_share 56 = .ok (.i2l, 1) := dk_133 (dk_at dksX7_share_2 8 rfl rfl)
theorem dX7_share_57 : decode cX7_share 57 = .ok (.aload_n 0, 1) := dk_42 (dk_at dksX7_share_2 9 rfl rfl)
theorem dX7_share_58 : decode cX7_share 58 = .ok (.getfield 16, 3) := dk_180 0 16 (dk_at dksX7_share_2 10 rfl rfl)
theorem dX7_share_61 : decode cX7_share 61 = .ok (.iconst 3, 1) := dk_6 (dk_at dksX7_share_2 13 rfl rfl)
theorem dX7_share_62 : decode cX7_share 62 = .ok (.iload_n 1, 1) := dk_27 (dk_at dksX7_share_2 14 rfl rfl)
theorem dX7_share_63 : decode cX7_share 63 = .ok (.imul, 1) := dk_104 (dk_at dksX7_share_2 15 rfl rfl)
theorem dX7_share_64 : decode cX7_share 64 = .ok (.iconst 1, 1) := dk_4 (dk_at dksX7_share_2 16 rfl rfl)
theorem dX7_share_65 : decode cX7_share 65 = .ok (.iadd, 1) := dk_96 (dk_at dksX7_share_2 17 rfl rfl)
theorem dX7_share_66 : decode cX7_share 66 = .ok (.iaload, 1) := dk_46 (dk_at dksX7_share_2 18 rfl rfl)
theorem dX7_share_67 : decode cX7_share 67 = .ok (.invokestatic 79, 3) := dk_184 0 79 (dk_at dksX7_share_2 19 rfl rfl)
theorem dX7_share_70 : decode cX7_share 70 = .ok (.i2l, 1) := dk_133 (dk_at dksX7_share_2 22 rfl rfl)
theorem dX7_share_71 : decode cX7_share 71 = .ok (.iload_n 2, 1) := dk_28 (dk_at dksX7_share_2 23 rfl rfl)
theorem dX7_share_72 : decode cX7_share 72 = .ok (.invokestatic 226, 3) := dk_184 0 226 (dk_at dksX7_share_3 0 rfl rfl)
theorem dX7_share_75 : decode cX7_share 75 = .ok (.lreturn, 1) := dk_173 (dk_at dksX7_share_3 3 rfl rfl)
abbrev cX7_lowest : ByteArray := prog_19_method_57_code
def yX7_lowest : MethodName := ⟨RX7, "lowest", "(JJI)J"⟩
def dkwX7_lowest_2 : List UInt8 := [167, 0, 4, 32, 22, 5, 109, 173]
abbrev dktX7_lowest_2 : List UInt8 := dkwX7_lowest_2 ++ []
def dkwX7_lowest_1 : List UInt8 := [22, 5, 22, 7, 113, 55, 9, 22, 7, 55, 5, 22, 9, 55, 7, 167, 255, 234, 21, 4, 154, 0, 7, 30]
abbrev dktX7_lowest_1 : List UInt8 := dkwX7_lowest_1 ++ dktX7_lowest_2
def dkwX7_lowest_0 : List UInt8 := [30, 9, 148, 154, 0, 7, 21, 4, 133, 173, 30, 55, 5, 32, 55, 7, 22, 7, 9, 148, 153, 0, 21]
abbrev dktX7_lowest_0 : List UInt8 := dkwX7_lowest_0 ++ dktX7_lowest_1
theorem dksX7_lowest_0 : cX7_lowest.data.toList.drop 0 = dktX7_lowest_0 := by decide +kernel
theorem dksX7_lowest_1 : cX7_lowest.data.toList.drop 23 = dktX7_lowest_1 := dk_seg dksX7_lowest_0 23 rfl rfl
theorem dksX7_lowest_2 : cX7_lowest.data.toList.drop 47 = dktX7_lowest_2 := dk_seg dksX7_lowest_1 24 rfl rfl
theorem dX7_lowest_0 : decode cX7_lowest 0 = .ok (.lload_n 0, 1) := dk_30 (dk_at dksX7_lowest_0 0 rfl rfl)
theorem dX7_lowest_1 : decode cX7_lowest 1 = .ok (.lconst 0, 1) := dk_9 (dk_at dksX7_lowest_0 1 rfl rfl)
theorem dX7_lowest_2 : decode cX7_lowest 2 = .ok (.lcmp, 1) := dk_148 (dk_at dksX7_lowest_0 2 rfl rfl)
theorem dX7_lowest_3 : decode cX7_lowest 3 = .ok (.ifCond .ne 7, 3) := dk_154 0 7 (dk_at dksX7_lowest_0 3 rfl rfl)
theorem dX7_lowest_6 : decode cX7_lowest 6 = .ok (.iload 4, 2) := dk_21 4 (dk_at dksX7_lowest_0 6 rfl rfl)
theorem dX7_lowest_8 : decode cX7_lowest 8 = .ok (.i2l, 1) := dk_133 (dk_at dksX7_lowest_0 8 rfl rfl)
theorem dX7_lowest_9 : decode cX7_lowest 9 = .ok (.lreturn, 1) := dk_173 (dk_at dksX7_lowest_0 9 rfl rfl)
theorem dX7_lowest_10 : decode cX7_lowest 10 = .ok (.lload_n 0, 1) := dk_30 (dk_at dksX7_lowest_0 10 rfl rfl)
theorem dX7_lowest_11 : decode cX7_lowest 11 = .ok (.lstore 5, 2) := dk_55 5 (dk_at dksX7_lowest_0 11 rfl rfl)
theorem dX7_lowest_13 : decode cX7_lowest 13 = .ok (.lload_n 2, 1) := dk_32 (dk_at dksX7_lowest_0 13 rfl rfl)
theorem dX7_lowest_14 : decode cX7_lowest 14 = .ok (.lstore 7, 2) := dk_55 7 (dk_at dksX7_lowest_0 14 rfl rfl)
theorem dX7_lowest_16 : decode cX7_lowest 16 = .ok (.lload 7, 2) := dk_22 7 (dk_at dksX7_lowest_0 16 rfl rfl)
theorem dX7_lowest_18 : decode cX7_lowest 18 = .ok (.lconst 0, 1) := dk_9 (dk_at dksX7_lowest_0 18 rfl rfl)
theorem dX7_lowest_19 : decode cX7_lowest 19 = .ok (.lcmp, 1) := dk_148 (dk_at dksX7_lowest_0 19 rfl rfl)
theorem dX7_lowest_20 : decode cX7_lowest 20 = .ok (.ifCond .eq 21, 3) := dk_153 0 21 (dk_at dksX7_lowest_0 20 rfl rfl)
theorem dX7_lowest_23 : decode cX7_lowest 23 = .ok (.lload 5, 2) := dk_22 5 (dk_at dksX7_lowest_1 0 rfl rfl)
theorem dX7_lowest_25 : decode cX7_lowest 25 = .ok (.lload 7, 2) := dk_22 7 (dk_at dksX7_lowest_1 2 rfl rfl)
theorem dX7_lowest_27 : decode cX7_lowest 27 = .ok (.lrem, 1) := dk_113 (dk_at dksX7_lowest_1 4 rfl rfl)
theorem dX7_lowest_28 : decode cX7_lowest 28 = .ok (.lstore 9, 2) := dk_55 9 (dk_at dksX7_lowest_1 5 rfl rfl)
theorem dX7_lowest_30 : decode cX7_lowest 30 = .ok (.lload 7, 2) := dk_22 7 (dk_at dksX7_lowest_1 7 rfl rfl)
theorem dX7_lowest_32 : decode cX7_lowest 32 = .ok (.lstore 5, 2) := dk_55 5 (dk_at dksX7_lowest_1 9 rfl rfl)
theorem dX7_lowest_34 : decode cX7_lowest 34 = .ok (.lload 9, 2) := dk_22 9 (dk_at dksX7_lowest_1 11 rfl rfl)
theorem dX7_lowest_36 : decode cX7_lowest 36 = .ok (.lstore 7, 2) := dk_55 7 (dk_at dksX7_lowest_1 13 rfl rfl)
theorem dX7_lowest_38 : decode cX7_lowest 38 = .ok (.goto (-22), 3) := dk_167 255 234 (dk_at dksX7_lowest_1 15 rfl rfl)
theorem dX7_lowest_41 : decode cX7_lowest 41 = .ok (.iload 4, 2) := dk_21 4 (dk_at dksX7_lowest_1 18 rfl rfl)
theorem dX7_lowest_43 : decode cX7_lowest 43 = .ok (.ifCond .ne 7, 3) := dk_154 0 7 (dk_at dksX7_lowest_1 20 rfl rfl)
theorem dX7_lowest_46 : decode cX7_lowest 46 = .ok (.lload_n 0, 1) := dk_30 (dk_at dksX7_lowest_1 23 rfl rfl)
theorem dX7_lowest_47 : decode cX7_lowest 47 = .ok (.goto 4, 3) := dk_167 0 4 (dk_at dksX7_lowest_2 0 rfl rfl)
theorem dX7_lowest_50 : decode cX7_lowest 50 = .ok (.lload_n 2, 1) := dk_32 (dk_at dksX7_lowest_2 3 rfl rfl)
theorem dX7_lowest_51 : decode cX7_lowest 51 = .ok (.lload 5, 2) := dk_22 5 (dk_at dksX7_lowest_2 4 rfl rfl)
theorem dX7_lowest_53 : decode cX7_lowest 53 = .ok (.ldiv, 1) := dk_109 (dk_at dksX7_lowest_2 6 rfl rfl)
theorem dX7_lowest_54 : decode cX7_lowest 54 = .ok (.lreturn, 1) := dk_173 (dk_at dksX7_lowest_2 7 rfl rfl)
abbrev cX7_judge : ByteArray := prog_19_method_62_code
def yX7_judge : MethodName := ⟨RX7, "judge", "(III)I"⟩
def dkwX7_judge_1 : List UInt8 := [21, 4, 172]
abbrev dktX7_judge_1 : List UInt8 := dkwX7_judge_1 ++ []
def dkwX7_judge_0 : List UInt8 := [42, 27, 28, 29, 182, 0, 233, 54, 4, 21, 4, 154, 0, 13, 42, 27, 28, 29, 182, 0, 236, 167, 0, 5]
abbrev dktX7_judge_0 : List UInt8 := dkwX7_judge_0 ++ dktX7_judge_1
theorem dksX7_judge_0 : cX7_judge.data.toList.drop 0 = dktX7_judge_0 := by decide +kernel
theorem dksX7_judge_1 : cX7_judge.data.toList.drop 24 = dktX7_judge_1 := dk_seg dksX7_judge_0 24 rfl rfl
theorem dX7_judge_0 : decode cX7_judge 0 = .ok (.aload_n 0, 1) := dk_42 (dk_at dksX7_judge_0 0 rfl rfl)
theorem dX7_judge_1 : decode cX7_judge 1 = .ok (.iload_n 1, 1) := dk_27 (dk_at dksX7_judge_0 1 rfl rfl)
theorem dX7_judge_2 : decode cX7_judge 2 = .ok (.iload_n 2, 1) := dk_28 (dk_at dksX7_judge_0 2 rfl rfl)
theorem dX7_judge_3 : decode cX7_judge 3 = .ok (.iload_n 3, 1) := dk_29 (dk_at dksX7_judge_0 3 rfl rfl)
theorem dX7_judge_4 : decode cX7_judge 4 = .ok (.invokevirtual 233, 3) := dk_182 0 233 (dk_at dksX7_judge_0 4 rfl rfl)
theorem dX7_judge_7 : decode cX7_judge 7 = .ok (.istore 4, 2) := dk_54 4 (dk_at dksX7_judge_0 7 rfl rfl)
theorem dX7_judge_9 : decode cX7_judge 9 = .ok (.iload 4, 2) := dk_21 4 (dk_at dksX7_judge_0 9 rfl rfl)
theorem dX7_judge_11 : decode cX7_judge 11 = .ok (.ifCond .ne 13, 3) := dk_154 0 13 (dk_at dksX7_judge_0 11 rfl rfl)
theorem dX7_judge_14 : decode cX7_judge 14 = .ok (.aload_n 0, 1) := dk_42 (dk_at dksX7_judge_0 14 rfl rfl)
theorem dX7_judge_15 : decode cX7_judge 15 = .ok (.iload_n 1, 1) := dk_27 (dk_at dksX7_judge_0 15 rfl rfl)
theorem dX7_judge_16 : decode cX7_judge 16 = .ok (.iload_n 2, 1) := dk_28 (dk_at dksX7_judge_0 16 rfl rfl)
theorem dX7_judge_17 : decode cX7_judge 17 = .ok (.iload_n 3, 1) := dk_29 (dk_at dksX7_judge_0 17 rfl rfl)
theorem dX7_judge_18 : decode cX7_judge 18 = .ok (.invokevirtual 236, 3) := dk_182 0 236 (dk_at dksX7_judge_0 18 rfl rfl)
theorem dX7_judge_21 : decode cX7_judge 21 = .ok (.goto 5, 3) := dk_167 0 5 (dk_at dksX7_judge_0 21 rfl rfl)
theorem dX7_judge_24 : decode cX7_judge 24 = .ok (.iload 4, 2) := dk_21 4 (dk_at dksX7_judge_1 0 rfl rfl)
theorem dX7_judge_26 : decode cX7_judge 26 = .ok (.ireturn, 1) := dk_172 (dk_at dksX7_judge_1 2 rfl rfl)
abbrev cX7_toldWrong : ByteArray := prog_19_method_60_code
def yX7_toldWrong : MethodName := ⟨RX7, "toldWrong", "(III)I"⟩
def dkwX7_toldWrong_1 : List UInt8 := [153, 0, 7, 3, 167, 0, 5, 16, 251, 172]
abbrev dktX7_toldWrong_1 : List UInt8 := dkwX7_toldWrong_1 ++ []
def dkwX7_toldWrong_0 : List UInt8 := [42, 27, 28, 182, 0, 230, 54, 4, 21, 4, 153, 0, 8, 21, 4, 167, 0, 17, 42, 29, 182, 0, 162]
abbrev dktX7_toldWrong_0 : List UInt8 := dkwX7_toldWrong_0 ++ dktX7_toldWrong_1
theorem dksX7_toldWrong_0 : cX7_toldWrong.data.toList.drop 0 = dktX7_toldWrong_0 := by decide +kernel
theorem dksX7_toldWrong_1 : cX7_toldWrong.data.toList.drop 23 = dktX7_toldWrong_1 := dk_seg dksX7_toldWrong_0 23 rfl rfl
theorem dX7_toldWrong_0 : decode cX7_toldWrong 0 = .ok (.aload_n 0, 1) := dk_42 (dk_at dksX7_toldWrong_0 0 rfl rfl)
theorem dX7_toldWrong_1 : decode cX7_toldWrong 1 = .ok (.iload_n 1, 1) := dk_27 (dk_at dksX7_toldWrong_0 1 rfl rfl)
theorem dX7_toldWrong_2 : decode cX7_toldWrong 2 = .ok (.iload_n 2, 1) := dk_28 (dk_at dksX7_toldWrong_0 2 rfl rfl)
theorem dX7_toldWrong_3 : decode cX7_toldWrong 3 = .ok (.invokevirtual 230, 3) := dk_182 0 230 (dk_at dksX7_toldWrong_0 3 rfl rfl)
theorem dX7_toldWrong_6 : decode cX7_toldWrong 6 = .ok (.istore 4, 2) := dk_54 4 (dk_at dksX7_toldWrong_0 6 rfl rfl)
theorem dX7_toldWrong_8 : decode cX7_toldWrong 8 = .ok (.iload 4, 2) := dk_21 4 (dk_at dksX7_toldWrong_0 8 rfl rfl)
theorem dX7_toldWrong_10 : decode cX7_toldWrong 10 = .ok (.ifCond .eq 8, 3) := dk_153 0 8 (dk_at dksX7_toldWrong_0 10 rfl rfl)
theorem dX7_toldWrong_13 : decode cX7_toldWrong 13 = .ok (.iload 4, 2) := dk_21 4 (dk_at dksX7_toldWrong_0 13 rfl rfl)
theorem dX7_toldWrong_15 : decode cX7_toldWrong 15 = .ok (.goto 17, 3) := dk_167 0 17 (dk_at dksX7_toldWrong_0 15 rfl rfl)
theorem dX7_toldWrong_18 : decode cX7_toldWrong 18 = .ok (.aload_n 0, 1) := dk_42 (dk_at dksX7_toldWrong_0 18 rfl rfl)
theorem dX7_toldWrong_19 : decode cX7_toldWrong 19 = .ok (.iload_n 3, 1) := dk_29 (dk_at dksX7_toldWrong_0 19 rfl rfl)
theorem dX7_toldWrong_20 : decode cX7_toldWrong 20 = .ok (.invokevirtual 162, 3) := dk_182 0 162 (dk_at dksX7_toldWrong_0 20 rfl rfl)
theorem dX7_toldWrong_23 : decode cX7_toldWrong 23 = .ok (.ifCond .eq 7, 3) := dk_153 0 7 (dk_at dksX7_toldWrong_1 0 rfl rfl)
theorem dX7_toldWrong_26 : decode cX7_toldWrong 26 = .ok (.iconst 0, 1) := dk_3 (dk_at dksX7_toldWrong_1 3 rfl rfl)
theorem dX7_toldWrong_27 : decode cX7_toldWrong 27 = .ok (.goto 5, 3) := dk_167 0 5 (dk_at dksX7_toldWrong_1 4 rfl rfl)
theorem dX7_toldWrong_30 : decode cX7_toldWrong 30 = .ok (.bipush (-5), 2) := dk_16 251 (dk_at dksX7_toldWrong_1 7 rfl rfl)
theorem dX7_toldWrong_32 : decode cX7_toldWrong 32 = .ok (.ireturn, 1) := dk_172 (dk_at dksX7_toldWrong_1 9 rfl rfl)
abbrev cX7_twoWrong : ByteArray := prog_19_method_59_code
def yX7_twoWrong : MethodName := ⟨RX7, "twoWrong", "(II)I"⟩
def dkwX7_twoWrong_2 : List UInt8 := [46, 164, 0, 8, 16, 254, 167, 0, 4, 3, 172]
abbrev dktX7_twoWrong_2 : List UInt8 := dkwX7_twoWrong_2 ++ []
def dkwX7_twoWrong_1 : List UInt8 := [42, 180, 0, 34, 28, 46, 2, 160, 0, 6, 16, 245, 172, 42, 180, 0, 37, 28, 46, 42, 180, 0, 37, 27]
abbrev dktX7_twoWrong_1 : List UInt8 := dkwX7_twoWrong_1 ++ dktX7_twoWrong_2
def dkwX7_twoWrong_0 : List UInt8 := [28, 3, 6, 184, 0, 72, 154, 0, 6, 16, 254, 172, 42, 27, 182, 0, 192, 62, 29, 153, 0, 5, 29, 172]
abbrev dktX7_twoWrong_0 : List UInt8 := dkwX7_twoWrong_0 ++ dktX7_twoWrong_1
theorem dksX7_twoWrong_0 : cX7_twoWrong.data.toList.drop 0 = dktX7_twoWrong_0 := by decide +kernel
theorem dksX7_twoWrong_1 : cX7_twoWrong.data.toList.drop 24 = dktX7_twoWrong_1 := dk_seg dksX7_twoWrong_0 24 rfl rfl
theorem dksX7_twoWrong_2 : cX7_twoWrong.data.toList.drop 48 = dktX7_twoWrong_2 := dk_seg dksX7_twoWrong_1 24 rfl rfl
theorem dX7_twoWrong_0 : decode cX7_twoWrong 0 = .ok (.iload_n 2, 1) := dk_28 (dk_at dksX7_twoWrong_0 0 rfl rfl)
theorem dX7_twoWrong_1 : decode cX7_twoWrong 1 = .ok (.iconst 0, 1) := dk_3 (dk_at dksX7_twoWrong_0 1 rfl rfl)
theorem dX7_twoWrong_2 : decode cX7_twoWrong 2 = .ok (.iconst 3, 1) := dk_6 (dk_at dksX7_twoWrong_0 2 rfl rfl)
theorem dX7_twoWrong_3 : decode cX7_twoWrong 3 = .ok (.invokestatic 72, 3) := dk_184 0 72 (dk_at dksX7_twoWrong_0 3 rfl rfl)
theorem dX7_twoWrong_6 : decode cX7_twoWrong 6 = .ok (.ifCond .ne 6, 3) := dk_154 0 6 (dk_at dksX7_twoWrong_0 6 rfl rfl)
theorem dX7_twoWrong_9 : decode cX7_twoWrong 9 = .ok (.bipush (-2), 2) := dk_16 254 (dk_at dksX7_twoWrong_0 9 rfl rfl)
theorem dX7_twoWrong_11 : decode cX7_twoWrong 11 = .ok (.ireturn, 1) := dk_172 (dk_at dksX7_twoWrong_0 11 rfl rfl)
theorem dX7_twoWrong_12 : decode cX7_twoWrong 12 = .ok (.aload_n 0, 1) := dk_42 (dk_at dksX7_twoWrong_0 12 rfl rfl)
theorem dX7_twoWrong_13 : decode cX7_twoWrong 13 = .ok (.iload_n 1, 1) := dk_27 (dk_at dksX7_twoWrong_0 13 rfl rfl)
theorem dX7_twoWrong_14 : decode cX7_twoWrong 14 = .ok (.invokevirtual 192, 3) := dk_182 0 192 (dk_at dksX7_twoWrong_0 14 rfl rfl)
theorem dX7_twoWrong_17 : decode cX7_twoWrong 17 = .ok (.istore_n 3, 1) := dk_62 (dk_at dksX7_twoWrong_0 17 rfl rfl)
theorem dX7_twoWrong_18 : decode cX7_twoWrong 18 = .ok (.iload_n 3, 1) := dk_29 (dk_at dksX7_twoWrong_0 18 rfl rfl)
theorem dX7_twoWrong_19 : decode cX7_twoWrong 19 = .ok (.ifCond .eq 5, 3) := dk_153 0 5 (dk_at dksX7_twoWrong_0 19 rfl rfl)
theorem dX7_twoWrong_22 : decode cX7_twoWrong 22 = .ok (.iload_n 3, 1) := dk_29 (dk_at dksX7_twoWrong_0 22 rfl rfl)
theorem dX7_twoWrong_23 : decode cX7_twoWrong 23 = .ok (.ireturn, 1) := dk_172 (dk_at dksX7_twoWrong_0 23 rfl rfl)
theorem dX7_twoWrong_24 : decode cX7_twoWrong 24 = .ok (.aload_n 0, 1) := dk_42 (dk_at dksX7_twoWrong_1 0 rfl rfl)
theorem dX7_twoWrong_25 : decode cX7_twoWrong 25 = .ok (.getfield 34, 3) := dk_180 0 34 (dk_at dksX7_twoWrong_1 1 rfl rfl)
theorem dX7_twoWrong_28 : decode cX7_twoWrong 28 = .ok (.iload_n 2, 1) := dk_28 (dk_at dksX7_twoWrong_1 4 rfl rfl)
theorem dX7_twoWrong_29 : decode cX7_twoWrong 29 = .ok (.iaload, 1) := dk_46 (dk_at dksX7_twoWrong_1 5 rfl rfl)
theorem dX7_twoWrong_30 : decode cX7_twoWrong 30 = .ok (.iconst (-1), 1) := dk_2 (dk_at dksX7_twoWrong_1 6 rfl rfl)
theorem dX7_twoWrong_31 : decode cX7_twoWrong 31 = .ok (.if_icmp .ne 6, 3) := dk_160 0 6 (dk_at dksX7_twoWrong_1 7 rfl rfl)
theorem dX7_twoWrong_34 : decode cX7_twoWrong 34 = .ok (.bipush (-11), 2) := dk_16 245 (dk_at dksX7_twoWrong_1 10 rfl rfl)
theorem dX7_twoWrong_36 : decode cX7_twoWrong 36 = .ok (.ireturn, 1) := dk_172 (dk_at dksX7_twoWrong_1 12 rfl rfl)
theorem dX7_twoWrong_37 : decode cX7_twoWrong 37 = .ok (.aload_n 0, 1) := dk_42 (dk_at dksX7_twoWrong_1 13 rfl rfl)
theorem dX7_twoWrong_38 : decode cX7_twoWrong 38 = .ok (.getfield 37, 3) := dk_180 0 37 (dk_at dksX7_twoWrong_1 14 rfl rfl)
theorem dX7_twoWrong_41 : decode cX7_twoWrong 41 = .ok (.iload_n 2, 1) := dk_28 (dk_at dksX7_twoWrong_1 17 rfl rfl)
theorem dX7_twoWrong_42 : decode cX7_twoWrong 42 = .ok (.iaload, 1) := dk_46 (dk_at dksX7_twoWrong_1 18 rfl rfl)
theorem dX7_twoWrong_43 : decode cX7_twoWrong 43 = .ok (.aload_n 0, 1) := dk_42 (dk_at dksX7_twoWrong_1 19 rfl rfl)
theorem dX7_twoWrong_44 : decode cX7_twoWrong 44 = .ok (.getfield 37, 3) := dk_180 0 37 (dk_at dksX7_twoWrong_1 20 rfl rfl)
theorem dX7_twoWrong_47 : decode cX7_twoWrong 47 = .ok (.iload_n 1, 1) := dk_27 (dk_at dksX7_twoWrong_1 23 rfl rfl)
theorem dX7_twoWrong_48 : decode cX7_twoWrong 48 = .ok (.iaload, 1) := dk_46 (dk_at dksX7_twoWrong_2 0 rfl rfl)
theorem dX7_twoWrong_49 : decode cX7_twoWrong 49 = .ok (.if_icmp .le 8, 3) := dk_164 0 8 (dk_at dksX7_twoWrong_2 1 rfl rfl)
theorem dX7_twoWrong_52 : decode cX7_twoWrong 52 = .ok (.bipush (-2), 2) := dk_16 254 (dk_at dksX7_twoWrong_2 4 rfl rfl)
theorem dX7_twoWrong_54 : decode cX7_twoWrong 54 = .ok (.goto 4, 3) := dk_167 0 4 (dk_at dksX7_twoWrong_2 6 rfl rfl)
theorem dX7_twoWrong_57 : decode cX7_twoWrong 57 = .ok (.iconst 0, 1) := dk_3 (dk_at dksX7_twoWrong_2 9 rfl rfl)
theorem dX7_twoWrong_58 : decode cX7_twoWrong 58 = .ok (.ireturn, 1) := dk_172 (dk_at dksX7_twoWrong_2 10 rfl rfl)
abbrev cX7_unlike : ByteArray := prog_19_method_61_code
def yX7_unlike : MethodName := ⟨RX7, "unlike", "(III)I"⟩
def dkwX7_unlike_4 : List UInt8 := [42, 182, 0, 208, 21, 4, 172]
abbrev dktX7_unlike_4 : List UInt8 := dkwX7_unlike_4 ++ []
def dkwX7_unlike_3 : List UInt8 := [96, 46, 160, 0, 7, 2, 167, 0, 5, 21, 5, 54, 4, 42, 182, 0, 189, 87, 132, 5, 1, 167, 255, 174]
abbrev dktX7_unlike_3 : List UInt8 := dkwX7_unlike_3 ++ dktX7_unlike_4
def dkwX7_unlike_2 : List UInt8 := [182, 0, 183, 87, 42, 180, 0, 40, 16, 40, 28, 104, 21, 5, 96, 46, 42, 180, 0, 16, 6, 29, 104, 5]
abbrev dktX7_unlike_2 : List UInt8 := dkwX7_unlike_2 ++ dktX7_unlike_3
def dkwX7_unlike_1 : List UInt8 := [160, 0, 71, 42, 29, 42, 180, 0, 40, 16, 40, 27, 104, 21, 5, 96, 46, 3, 16, 15, 184, 0, 159]
abbrev dktX7_unlike_1 : List UInt8 := dkwX7_unlike_1 ++ dktX7_unlike_2
def dkwX7_unlike_0 : List UInt8 := [2, 54, 4, 42, 182, 0, 201, 3, 54, 5, 21, 5, 42, 180, 0, 37, 28, 46, 162, 0, 77, 21, 4, 2]
abbrev dktX7_unlike_0 : List UInt8 := dkwX7_unlike_0 ++ dktX7_unlike_1
theorem dksX7_unlike_0 : cX7_unlike.data.toList.drop 0 = dktX7_unlike_0 := by decide +kernel
theorem dksX7_unlike_1 : cX7_unlike.data.toList.drop 24 = dktX7_unlike_1 := dk_seg dksX7_unlike_0 24 rfl rfl
theorem dksX7_unlike_2 : cX7_unlike.data.toList.drop 47 = dktX7_unlike_2 := dk_seg dksX7_unlike_1 23 rfl rfl
theorem dksX7_unlike_3 : cX7_unlike.data.toList.drop 71 = dktX7_unlike_3 := dk_seg dksX7_unlike_2 24 rfl rfl
theorem dksX7_unlike_4 : cX7_unlike.data.toList.drop 95 = dktX7_unlike_4 := dk_seg dksX7_unlike_3 24 rfl rfl
theorem dX7_unlike_0 : decode cX7_unlike 0 = .ok (.iconst (-1), 1) := dk_2 (dk_at dksX7_unlike_0 0 rfl rfl)
theorem dX7_unlike_1 : decode cX7_unlike 1 = .ok (.istore 4, 2) := dk_54 4 (dk_at dksX7_unlike_0 1 rfl rfl)
theorem dX7_unlike_3 : decode cX7_unlike 3 = .ok (.aload_n 0, 1) := dk_42 (dk_at dksX7_unlike_0 3 rfl rfl)
theorem dX7_unlike_4 : decode cX7_unlike 4 = .ok (.invokevirtual 201, 3) := dk_182 0 201 (dk_at dksX7_unlike_0 4 rfl rfl)
theorem dX7_unlike_7 : decode cX7_unlike 7 = .ok (.iconst 0, 1) := dk_3 (dk_at dksX7_unlike_0 7 rfl rfl)
theorem dX7_unlike_8 : decode cX7_unlike 8 = .ok (.istore 5, 2) := dk_54 5 (dk_at dksX7_unlike_0 8 rfl rfl)
theorem dX7_unlike_10 : decode cX7_unlike 10 = .ok (.iload 5, 2) := dk_21 5 (dk_at dksX7_unlike_0 10 rfl rfl)
theorem dX7_unlike_12 : decode cX7_unlike 12 = .ok (.aload_n 0, 1) := dk_42 (dk_at dksX7_unlike_0 12 rfl rfl)
theorem dX7_unlike_13 : decode cX7_unlike 13 = .ok (.getfield 37, 3) := dk_180 0 37 (dk_at dksX7_unlike_0 13 rfl rfl)
theorem dX7_unlike_16 : decode cX7_unlike 16 = .ok (.iload_n 2, 1) := dk_28 (dk_at dksX7_unlike_0 16 rfl rfl)
theorem dX7_unlike_17 : decode cX7_unlike 17 = .ok (.iaload, 1) := dk_46 (dk_at dksX7_unlike_0 17 rfl rfl)
theorem dX7_unlike_18 : decode cX7_unlike 18 = .ok (.if_icmp .ge 77, 3) := dk_162 0 77 (dk_at dksX7_unlike_0 18 rfl rfl)
theorem dX7_unlike_21 : decode cX7_unlike 21 = .ok (.iload 4, 2) := dk_21 4 (dk_at dksX7_unlike_0 21 rfl rfl)
theorem dX7_unlike_23 : decode cX7_unlike 23 = .ok (.iconst (-1), 1) := dk_2 (dk_at dksX7_unlike_0 23 rfl rfl)
theorem dX7_unlike_24 : decode cX7_unlike 24 = .ok (.if_icmp .ne 71, 3) := dk_160 0 71 (dk_at dksX7_unlike_1 0 rfl rfl)
theorem dX7_unlike_27 : decode cX7_unlike 27 = .ok (.aload_n 0, 1) := dk_42 (dk_at dksX7_unlike_1 3 rfl rfl)
theorem dX7_unlike_28 : decode cX7_unlike 28 = .ok (.iload_n 3, 1) := dk_29 (dk_at dksX7_unlike_1 4 rfl rfl)
theorem dX7_unlike_29 : decode cX7_unlike 29 = .ok (.aload_n 0, 1) := dk_42 (dk_at dksX7_unlike_1 5 rfl rfl)
theorem dX7_unlike_30 : decode cX7_unlike 30 = .ok (.getfield 40, 3) := dk_180 0 40 (dk_at dksX7_unlike_1 6 rfl rfl)
theorem dX7_unlike_33 : decode cX7_unlike 33 = .ok (.bipush 40, 2) := dk_16 40 (dk_at dksX7_unlike_1 9 rfl rfl)
theorem dX7_unlike_35 : decode cX7_unlike 35 = .ok (.iload_n 1, 1) := dk_27 (dk_at dksX7_unlike_1 11 rfl rfl)
theorem dX7_unlike_36 : decode cX7_unlike 36 = .ok (.imul, 1) := dk_104 (dk_at dksX7_unlike_1 12 rfl rfl)
theorem dX7_unlike_37 : decode cX7_unlike 37 = .ok (.iload 5, 2) := dk_21 5 (dk_at dksX7_unlike_1 13 rfl rfl)
theorem dX7_unlike_39 : decode cX7_unlike 39 = .ok (.iadd, 1) := dk_96 (dk_at dksX7_unlike_1 15 rfl rfl)
theorem dX7_unlike_40 : decode cX7_unlike 40 = .ok (.iaload, 1) := dk_46 (dk_at dksX7_unlike_1 16 rfl rfl)
theorem dX7_unlike_41 : decode cX7_unlike 41 = .ok (.iconst 0, 1) := dk_3 (dk_at dksX7_unlike_1 17 rfl rfl)
theorem dX7_unlike_42 : decode cX7_unlike 42 = .ok (.bipush 15, 2) := dk_16 15 (dk_at dksX7_unlike_1 18 rfl rfl)
theorem dX7_unlike_44 : decode cX7_unlike 44 = .ok (.invokestatic 159, 3) := dk_184 0 159 (dk_at dksX7_unlike_1 20 rfl rfl)
theorem dX7_unlike_47 : decode cX7_unlike 47 = .ok (.invokevirtual 183, 3) := dk_182 0 183 (dk_at dksX7_unlike_2 0 rfl rfl)
theorem dX7_unlike_50 : decode cX7_unlike 50 = .ok (.pop, 1) := dk_87 (dk_at dksX7_unlike_2 3 rfl rfl)
theorem dX7_unlike_51 : decode cX7_unlike 51 = .ok (.aload_n 0, 1) := dk_42 (dk_at dksX7_unlike_2 4 rfl rfl)
theorem dX7_unlike_52 : decode cX7_unlike 52 = .ok (.getfield 40, 3) := dk_180 0 40 (dk_at dksX7_unlike_2 5 rfl rfl)
theorem dX7_unlike_55 : decode cX7_unlike 55 = .ok (.bipush 40, 2) := dk_16 40 (dk_at dksX7_unlike_2 8 rfl rfl)
theorem dX7_unlike_57 : decode cX7_unlike 57 = .ok (.iload_n 2, 1) := dk_28 (dk_at dksX7_unlike_2 10 rfl rfl)
theorem dX7_unlike_58 : decode cX7_unlike 58 = .ok (.imul, 1) := dk_104 (dk_at dksX7_unlike_2 11 rfl rfl)
theorem dX7_unlike_59 : decode cX7_unlike 59 = .ok (.iload 5, 2) := dk_21 5 (dk_at dksX7_unlike_2 12 rfl rfl)
theorem dX7_unlike_61 : decode cX7_unlike 61 = .ok (.iadd, 1) := dk_96 (dk_at dksX7_unlike_2 14 rfl rfl)
theorem dX7_unlike_62 : decode cX7_unlike 62 = .ok (.iaload, 1) := dk_46 (dk_at dksX7_unlike_2 15 rfl rfl)
theorem dX7_unlike_63 : decode cX7_unlike 63 = .ok (.aload_n 0, 1) := dk_42 (dk_at dksX7_unlike_2 16 rfl rfl)
theorem dX7_unlike_64 : decode cX7_unlike 64 = .ok (.getfield 16, 3) := dk_180 0 16 (dk_at dksX7_unlike_2 17 rfl rfl)
theorem dX7_unlike_67 : decode cX7_unlike 67 = .ok (.iconst 3, 1) := dk_6 (dk_at dksX7_unlike_2 20 rfl rfl)
theorem dX7_unlike_68 : decode cX7_unlike 68 = .ok (.iload_n 3, 1) := dk_29 (dk_at dksX7_unlike_2 21 rfl rfl)
theorem dX7_unlike_69 : decode cX7_unlike 69 = .ok (.imul, 1) := dk_104 (dk_at dksX7_unlike_2 22 rfl rfl)
theorem dX7_unlike_70 : decode cX7_unlike 70 = .ok (.iconst 2, 1) := dk_5 (dk_at dksX7_unlike_2 23 rfl rfl)
theorem dX7_unlike_71 : decode cX7_unlike 71 = .ok (.iadd, 1) := dk_96 (dk_at dksX7_unlike_3 0 rfl rfl)
theorem dX7_unlike_72 : decode cX7_unlike 72 = .ok (.iaload, 1) := dk_46 (dk_at dksX7_unlike_3 1 rfl rfl)
theorem dX7_unlike_73 : decode cX7_unlike 73 = .ok (.if_icmp .ne 7, 3) := dk_160 0 7 (dk_at dksX7_unlike_3 2 rfl rfl)
theorem dX7_unlike_76 : decode cX7_unlike 76 = .ok (.iconst (-1), 1) := dk_2 (dk_at dksX7_unlike_3 5 rfl rfl)
theorem dX7_unlike_77 : decode cX7_unlike 77 = .ok (.goto 5, 3) := dk_167 0 5 (dk_at dksX7_unlike_3 6 rfl rfl)
theorem dX7_unlike_80 : decode cX7_unlike 80 = .ok (.iload 5, 2) := dk_21 5 (dk_at dksX7_unlike_3 9 rfl rfl)
theorem dX7_unlike_82 : decode cX7_unlike 82 = .ok (.istore 4, 2) := dk_54 4 (dk_at dksX7_unlike_3 11 rfl rfl)
theorem dX7_unlike_84 : decode cX7_unlike 84 = .ok (.aload_n 0, 1) := dk_42 (dk_at dksX7_unlike_3 13 rfl rfl)
theorem dX7_unlike_85 : decode cX7_unlike 85 = .ok (.invokevirtual 189, 3) := dk_182 0 189 (dk_at dksX7_unlike_3 14 rfl rfl)
theorem dX7_unlike_88 : decode cX7_unlike 88 = .ok (.pop, 1) := dk_87 (dk_at dksX7_unlike_3 17 rfl rfl)
theorem dX7_unlike_89 : decode cX7_unlike 89 = .ok (.iinc 5 1, 3) := dk_132 5 1 (dk_at dksX7_unlike_3 18 rfl rfl)
theorem dX7_unlike_92 : decode cX7_unlike 92 = .ok (.goto (-82), 3) := dk_167 255 174 (dk_at dksX7_unlike_3 21 rfl rfl)
theorem dX7_unlike_95 : decode cX7_unlike 95 = .ok (.aload_n 0, 1) := dk_42 (dk_at dksX7_unlike_4 0 rfl rfl)
theorem dX7_unlike_96 : decode cX7_unlike 96 = .ok (.invokevirtual 208, 3) := dk_182 0 208 (dk_at dksX7_unlike_4 1 rfl rfl)
theorem dX7_unlike_99 : decode cX7_unlike 99 = .ok (.iload 4, 2) := dk_21 4 (dk_at dksX7_unlike_4 4 rfl rfl)
theorem dX7_unlike_101 : decode cX7_unlike 101 = .ok (.ireturn, 1) := dk_172 (dk_at dksX7_unlike_4 6 rfl rfl)
abbrev cX7_kinds : ByteArray := prog_19_method_63_code
def yX7_kinds : MethodName := ⟨RX7, "kinds", "(IIII)I"⟩
def dkwX7_kinds_6 : List UInt8 := [29, 21, 6, 79, 42, 180, 0, 13, 29, 21, 7, 79, 21, 8, 172]
abbrev dktX7_kinds_6 : List UInt8 := dkwX7_kinds_6 ++ []
def dkwX7_kinds_5 : List UInt8 := [160, 0, 10, 4, 21, 9, 120, 167, 0, 4, 3, 128, 54, 8, 132, 9, 1, 167, 255, 175, 42, 180, 0, 7]
abbrev dktX7_kinds_5 : List UInt8 := dkwX7_kinds_5 ++ dktX7_kinds_6
def dkwX7_kinds_4 : List UInt8 := [4, 160, 0, 8, 21, 9, 167, 0, 5, 21, 7, 79, 21, 8, 42, 27, 28, 29, 182, 0, 236, 2]
abbrev dktX7_kinds_4 : List UInt8 := dkwX7_kinds_4 ++ dktX7_kinds_5
def dkwX7_kinds_3 : List UInt8 := [180, 0, 7, 29, 21, 4, 154, 0, 8, 21, 9, 167, 0, 5, 21, 6, 79, 42, 180, 0, 13, 29, 21, 4]
abbrev dktX7_kinds_3 : List UInt8 := dkwX7_kinds_3 ++ dktX7_kinds_4
def dkwX7_kinds_2 : List UInt8 := [54, 8, 3, 54, 9, 21, 9, 21, 4, 154, 0, 8, 16, 6, 167, 0, 5, 16, 10, 162, 0, 70, 42]
abbrev dktX7_kinds_2 : List UInt8 := dkwX7_kinds_2 ++ dktX7_kinds_3
def dkwX7_kinds_1 : List UInt8 := [154, 0, 6, 16, 249, 172, 42, 180, 0, 7, 29, 46, 54, 6, 42, 180, 0, 13, 29, 46, 54, 7, 3]
abbrev dktX7_kinds_1 : List UInt8 := dkwX7_kinds_1 ++ dktX7_kinds_2
def dkwX7_kinds_0 : List UInt8 := [42, 27, 28, 29, 182, 0, 233, 54, 5, 21, 5, 153, 0, 6, 21, 5, 172, 21, 4, 3, 4, 184, 0, 72]
abbrev dktX7_kinds_0 : List UInt8 := dkwX7_kinds_0 ++ dktX7_kinds_1
theorem dksX7_kinds_0 : cX7_kinds.data.toList.drop 0 = dktX7_kinds_0 := by decide +kernel
theorem dksX7_kinds_1 : cX7_kinds.data.toList.drop 24 = dktX7_kinds_1 := dk_seg dksX7_kinds_0 24 rfl rfl
theorem dksX7_kinds_2 : cX7_kinds.data.toList.drop 47 = dktX7_kinds_2 := dk_seg dksX7_kinds_1 23 rfl rfl
theorem dksX7_kinds_3 : cX7_kinds.data.toList.drop 70 = dktX7_kinds_3 := dk_seg dksX7_kinds_2 23 rfl rfl
theorem dksX7_kinds_4 : cX7_kinds.data.toList.drop 94 = dktX7_kinds_4 := dk_seg dksX7_kinds_3 24 rfl rfl
theorem dksX7_kinds_5 : cX7_kinds.data.toList.drop 116 = dktX7_kinds_5 := dk_seg dksX7_kinds_4 22 rfl rfl
theorem dksX7_kinds_6 : cX7_kinds.data.toList.drop 140 = dktX7_kinds_6 := dk_seg dksX7_kinds_5 24 rfl rfl
theorem dX7_kinds_0 : decode cX7_kinds 0 = .ok (.aload_n 0, 1) := dk_42 (dk_at dksX7_kinds_0 0 rfl rfl)
theorem dX7_kinds_1 : decode cX7_kinds 1 = .ok (.iload_n 1, 1) := dk_27 (dk_at dksX7_kinds_0 1 rfl rfl)
theorem dX7_kinds_2 : decode cX7_kinds 2 = .ok (.iload_n 2, 1) := dk_28 (dk_at dksX7_kinds_0 2 rfl rfl)
theorem dX7_kinds_3 : decode cX7_kinds 3 = .ok (.iload_n 3, 1) := dk_29 (dk_at dksX7_kinds_0 3 rfl rfl)
theorem dX7_kinds_4 : decode cX7_kinds 4 = .ok (.invokevirtual 233, 3) := dk_182 0 233 (dk_at dksX7_kinds_0 4 rfl rfl)
theorem dX7_kinds_7 : decode cX7_kinds 7 = .ok (.istore 5, 2) := dk_54 5 (dk_at dksX7_kinds_0 7 rfl rfl)
theorem dX7_kinds_9 : decode cX7_kinds 9 = .ok (.iload 5, 2) := dk_21 5 (dk_at dksX7_kinds_0 9 rfl rfl)
theorem dX7_kinds_11 : decode cX7_kinds 11 = .ok (.ifCond .eq 6, 3) := dk_153 0 6 (dk_at dksX7_kinds_0 11 rfl rfl)
theorem dX7_kinds_14 : decode cX7_kinds 14 = .ok (.iload 5, 2) := dk_21 5 (dk_at dksX7_kinds_0 14 rfl rfl)
theorem dX7_kinds_16 : decode cX7_kinds 16 = .ok (.ireturn, 1) := dk_172 (dk_at dksX7_kinds_0 16 rfl rfl)
theorem dX7_kinds_17 : decode cX7_kinds 17 = .ok (.iload 4, 2) := dk_21 4 (dk_at dksX7_kinds_0 17 rfl rfl)
theorem dX7_kinds_19 : decode cX7_kinds 19 = .ok (.iconst 0, 1) := dk_3 (dk_at dksX7_kinds_0 19 rfl rfl)
theorem dX7_kinds_20 : decode cX7_kinds 20 = .ok (.iconst 1, 1) := dk_4 (dk_at dksX7_kinds_0 20 rfl rfl)
theorem dX7_kinds_21 : decode cX7_kinds 21 = .ok (.invokestatic 72, 3) := dk_184 0 72 (dk_at dksX7_kinds_0 21 rfl rfl)
theorem dX7_kinds_24 : decode cX7_kinds 24 = .ok (.ifCond .ne 6, 3) := dk_154 0 6 (dk_at dksX7_kinds_1 0 rfl rfl)
theorem dX7_kinds_27 : decode cX7_kinds 27 = .ok (.bipush (-7), 2) := dk_16 249 (dk_at dksX7_kinds_1 3 rfl rfl)
theorem dX7_kinds_29 : decode cX7_kinds 29 = .ok (.ireturn, 1) := dk_172 (dk_at dksX7_kinds_1 5 rfl rfl)
theorem dX7_kinds_30 : decode cX7_kinds 30 = .ok (.aload_n 0, 1) := dk_42 (dk_at dksX7_kinds_1 6 rfl rfl)
theorem dX7_kinds_31 : decode cX7_kinds 31 = .ok (.getfield 7, 3) := dk_180 0 7 (dk_at dksX7_kinds_1 7 rfl rfl)
theorem dX7_kinds_34 : decode cX7_kinds 34 = .ok (.iload_n 3, 1) := dk_29 (dk_at dksX7_kinds_1 10 rfl rfl)
theorem dX7_kinds_35 : decode cX7_kinds 35 = .ok (.iaload, 1) := dk_46 (dk_at dksX7_kinds_1 11 rfl rfl)
theorem dX7_kinds_36 : decode cX7_kinds 36 = .ok (.istore 6, 2) := dk_54 6 (dk_at dksX7_kinds_1 12 rfl rfl)
theorem dX7_kinds_38 : decode cX7_kinds 38 = .ok (.aload_n 0, 1) := dk_42 (dk_at dksX7_kinds_1 14 rfl rfl)
theorem dX7_kinds_39 : decode cX7_kinds 39 = .ok (.getfield 13, 3) := dk_180 0 13 (dk_at dksX7_kinds_1 15 rfl rfl)
theorem dX7_kinds_42 : decode cX7_kinds 42 = .ok (.iload_n 3, 1) := dk_29 (dk_at dksX7_kinds_1 18 rfl rfl)
theorem dX7_kinds_43 : decode cX7_kinds 43 = .ok (.iaload, 1) := dk_46 (dk_at dksX7_kinds_1 19 rfl rfl)
theorem dX7_kinds_44 : decode cX7_kinds 44 = .ok (.istore 7, 2) := dk_54 7 (dk_at dksX7_kinds_1 20 rfl rfl)
theorem dX7_kinds_46 : decode cX7_kinds 46 = .ok (.iconst 0, 1) := dk_3 (dk_at dksX7_kinds_1 22 rfl rfl)
theorem dX7_kinds_47 : decode cX7_kinds 47 = .ok (.istore 8, 2) := dk_54 8 (dk_at dksX7_kinds_2 0 rfl rfl)
theorem dX7_kinds_49 : decode cX7_kinds 49 = .ok (.iconst 0, 1) := dk_3 (dk_at dksX7_kinds_2 2 rfl rfl)
theorem dX7_kinds_50 : decode cX7_kinds 50 = .ok (.istore 9, 2) := dk_54 9 (dk_at dksX7_kinds_2 3 rfl rfl)
theorem dX7_kinds_52 : decode cX7_kinds 52 = .ok (.iload 9, 2) := dk_21 9 (dk_at dksX7_kinds_2 5 rfl rfl)
theorem dX7_kinds_54 : decode cX7_kinds 54 = .ok (.iload 4, 2) := dk_21 4 (dk_at dksX7_kinds_2 7 rfl rfl)
theorem dX7_kinds_56 : decode cX7_kinds 56 = .ok (.ifCond .ne 8, 3) := dk_154 0 8 (dk_at dksX7_kinds_2 9 rfl rfl)
theorem dX7_kinds_59 : decode cX7_kinds 59 = .ok (.bipush 6, 2) := dk_16 6 (dk_at dksX7_kinds_2 12 rfl rfl)
theorem dX7_kinds_61 : decode cX7_kinds 61 = .ok (.goto 5, 3) := dk_167 0 5 (dk_at dksX7_kinds_2 14 rfl rfl)
theorem dX7_kinds_64 : decode cX7_kinds 64 = .ok (.bipush 10, 2) := dk_16 10 (dk_at dksX7_kinds_2 17 rfl rfl)
theorem dX7_kinds_66 : decode cX7_kinds 66 = .ok (.if_icmp .ge 70, 3) := dk_162 0 70 (dk_at dksX7_kinds_2 19 rfl rfl)
theorem dX7_kinds_69 : decode cX7_kinds 69 = .ok (.aload_n 0, 1) := dk_42 (dk_at dksX7_kinds_2 22 rfl rfl)
theorem dX7_kinds_70 : decode cX7_kinds 70 = .ok (.getfield 7, 3) := dk_180 0 7 (dk_at dksX7_kinds_3 0 rfl rfl)
theorem dX7_kinds_73 : decode cX7_kinds 73 = .ok (.iload_n 3, 1) := dk_29 (dk_at dksX7_kinds_3 3 rfl rfl)
theorem dX7_kinds_74 : decode cX7_kinds 74 = .ok (.iload 4, 2) := dk_21 4 (dk_at dksX7_kinds_3 4 rfl rfl)
theorem dX7_kinds_76 : decode cX7_kinds 76 = .ok (.ifCond .ne 8, 3) := dk_154 0 8 (dk_at dksX7_kinds_3 6 rfl rfl)
theorem dX7_kinds_79 : decode cX7_kinds 79 = .ok (.iload 9, 2) := dk_21 9 (dk_at dksX7_kinds_3 9 rfl rfl)
theorem dX7_kinds_81 : decode cX7_kinds 81 = .ok (.goto 5, 3) := dk_167 0 5 (dk_at dksX7_kinds_3 11 rfl rfl)
theorem dX7_kinds_84 : decode cX7_kinds 84 = .ok (.iload 6, 2) := dk_21 6 (dk_at dksX7_kinds_3 14 rfl rfl)
theorem dX7_kinds_86 : decode cX7_kinds 86 = .ok (.iastore, 1) := dk_79 (dk_at dksX7_kinds_3 16 rfl rfl)
theorem dX7_kinds_87 : decode cX7_kinds 87 = .ok (.aload_n 0, 1) := dk_42 (dk_at dksX7_kinds_3 17 rfl rfl)
theorem dX7_kinds_88 : decode cX7_kinds 88 = .ok (.getfield 13, 3) := dk_180 0 13 (dk_at dksX7_kinds_3 18 rfl rfl)
theorem dX7_kinds_91 : decode cX7_kinds 91 = .ok (.iload_n 3, 1) := dk_29 (dk_at dksX7_kinds_3 21 rfl rfl)
theorem dX7_kinds_92 : decode cX7_kinds 92 = .ok (.iload 4, 2) := dk_21 4 (dk_at dksX7_kinds_3 22 rfl rfl)
theorem dX7_kinds_94 : decode cX7_kinds 94 = .ok (.iconst 1, 1) := dk_4 (dk_at dksX7_kinds_4 0 rfl rfl)
theorem dX7_kinds_95 : decode cX7_kinds 95 = .ok (.if_icmp .ne 8, 3) := dk_160 0 8 (dk_at dksX7_kinds_4 1 rfl rfl)
theorem dX7_kinds_98 : decode cX7_kinds 98 = .ok (.iload 9, 2) := dk_21 9 (dk_at dksX7_kinds_4 4 rfl rfl)
theorem dX7_kinds_100 : decode cX7_kinds 100 = .ok (.goto 5, 3) := dk_167 0 5 (dk_at dksX7_kinds_4 6 rfl rfl)
theorem dX7_kinds_103 : decode cX7_kinds 103 = .ok (.iload 7, 2) := dk_21 7 (dk_at dksX7_kinds_4 9 rfl rfl)
theorem dX7_kinds_105 : decode cX7_kinds 105 = .ok (.iastore, 1) := dk_79 (dk_at dksX7_kinds_4 11 rfl rfl)
theorem dX7_kinds_106 : decode cX7_kinds 106 = .ok (.iload 8, 2) := dk_21 8 (dk_at dksX7_kinds_4 12 rfl rfl)
theorem dX7_kinds_108 : decode cX7_kinds 108 = .ok (.aload_n 0, 1) := dk_42 (dk_at dksX7_kinds_4 14 rfl rfl)
theorem dX7_kinds_109 : decode cX7_kinds 109 = .ok (.iload_n 1, 1) := dk_27 (dk_at dksX7_kinds_4 15 rfl rfl)
theorem dX7_kinds_110 : decode cX7_kinds 110 = .ok (.iload_n 2, 1) := dk_28 (dk_at dksX7_kinds_4 16 rfl rfl)
theorem dX7_kinds_111 : decode cX7_kinds 111 = .ok (.iload_n 3, 1) := dk_29 (dk_at dksX7_kinds_4 17 rfl rfl)
theorem dX7_kinds_112 : decode cX7_kinds 112 = .ok (.invokevirtual 236, 3) := dk_182 0 236 (dk_at dksX7_kinds_4 18 rfl rfl)
theorem dX7_kinds_115 : decode cX7_kinds 115 = .ok (.iconst (-1), 1) := dk_2 (dk_at dksX7_kinds_4 21 rfl rfl)
theorem dX7_kinds_116 : decode cX7_kinds 116 = .ok (.if_icmp .ne 10, 3) := dk_160 0 10 (dk_at dksX7_kinds_5 0 rfl rfl)
theorem dX7_kinds_119 : decode cX7_kinds 119 = .ok (.iconst 1, 1) := dk_4 (dk_at dksX7_kinds_5 3 rfl rfl)
theorem dX7_kinds_120 : decode cX7_kinds 120 = .ok (.iload 9, 2) := dk_21 9 (dk_at dksX7_kinds_5 4 rfl rfl)
theorem dX7_kinds_122 : decode cX7_kinds 122 = .ok (.ishl, 1) := dk_120 (dk_at dksX7_kinds_5 6 rfl rfl)
theorem dX7_kinds_123 : decode cX7_kinds 123 = .ok (.goto 4, 3) := dk_167 0 4 (dk_at dksX7_kinds_5 7 rfl rfl)
theorem dX7_kinds_126 : decode cX7_kinds 126 = .ok (.iconst 0, 1) := dk_3 (dk_at dksX7_kinds_5 10 rfl rfl)
theorem dX7_kinds_127 : decode cX7_kinds 127 = .ok (.ior, 1) := dk_128 (dk_at dksX7_kinds_5 11 rfl rfl)
theorem dX7_kinds_128 : decode cX7_kinds 128 = .ok (.istore 8, 2) := dk_54 8 (dk_at dksX7_kinds_5 12 rfl rfl)
theorem dX7_kinds_130 : decode cX7_kinds 130 = .ok (.iinc 9 1, 3) := dk_132 9 1 (dk_at dksX7_kinds_5 14 rfl rfl)
theorem dX7_kinds_133 : decode cX7_kinds 133 = .ok (.goto (-81), 3) := dk_167 255 175 (dk_at dksX7_kinds_5 17 rfl rfl)
theorem dX7_kinds_136 : decode cX7_kinds 136 = .ok (.aload_n 0, 1) := dk_42 (dk_at dksX7_kinds_5 20 rfl rfl)
theorem dX7_kinds_137 : decode cX7_kinds 137 = .ok (.getfield 7, 3) := dk_180 0 7 (dk_at dksX7_kinds_5 21 rfl rfl)
theorem dX7_kinds_140 : decode cX7_kinds 140 = .ok (.iload_n 3, 1) := dk_29 (dk_at dksX7_kinds_6 0 rfl rfl)
theorem dX7_kinds_141 : decode cX7_kinds 141 = .ok (.iload 6, 2) := dk_21 6 (dk_at dksX7_kinds_6 1 rfl rfl)
theorem dX7_kinds_143 : decode cX7_kinds 143 = .ok (.iastore, 1) := dk_79 (dk_at dksX7_kinds_6 3 rfl rfl)
theorem dX7_kinds_144 : decode cX7_kinds 144 = .ok (.aload_n 0, 1) := dk_42 (dk_at dksX7_kinds_6 4 rfl rfl)
theorem dX7_kinds_145 : decode cX7_kinds 145 = .ok (.getfield 13, 3) := dk_180 0 13 (dk_at dksX7_kinds_6 5 rfl rfl)
theorem dX7_kinds_148 : decode cX7_kinds 148 = .ok (.iload_n 3, 1) := dk_29 (dk_at dksX7_kinds_6 8 rfl rfl)
theorem dX7_kinds_149 : decode cX7_kinds 149 = .ok (.iload 7, 2) := dk_21 7 (dk_at dksX7_kinds_6 9 rfl rfl)
theorem dX7_kinds_151 : decode cX7_kinds 151 = .ok (.iastore, 1) := dk_79 (dk_at dksX7_kinds_6 11 rfl rfl)
theorem dX7_kinds_152 : decode cX7_kinds 152 = .ok (.iload 8, 2) := dk_21 8 (dk_at dksX7_kinds_6 12 rfl rfl)
theorem dX7_kinds_154 : decode cX7_kinds 154 = .ok (.ireturn, 1) := dk_172 (dk_at dksX7_kinds_6 14 rfl rfl)
abbrev cX7_turned : ByteArray := prog_19_method_64_code
def yX7_turned : MethodName := ⟨RX7, "turned", "(III)I"⟩
def dkwX7_turned_4 : List UInt8 := [21, 6, 172]
abbrev dktX7_turned_4 : List UInt8 := dkwX7_turned_4 ++ []
def dkwX7_turned_3 : List UInt8 := [120, 167, 0, 4, 3, 128, 54, 6, 132, 7, 1, 167, 255, 207, 42, 180, 0, 16, 6, 29, 104, 21, 5, 79]
abbrev dktX7_turned_3 : List UInt8 := dkwX7_turned_3 ++ dktX7_turned_4
def dkwX7_turned_2 : List UInt8 := [21, 5, 4, 21, 7, 120, 130, 79, 21, 6, 42, 27, 28, 29, 182, 0, 236, 2, 160, 0, 10, 4, 21, 7]
abbrev dktX7_turned_2 : List UInt8 := dkwX7_turned_2 ++ dktX7_turned_3
def dkwX7_turned_1 : List UInt8 := [46, 54, 5, 3, 54, 6, 3, 54, 7, 21, 7, 16, 16, 162, 0, 48, 42, 180, 0, 16, 6, 29, 104]
abbrev dktX7_turned_1 : List UInt8 := dkwX7_turned_1 ++ dktX7_turned_2
def dkwX7_turned_0 : List UInt8 := [42, 27, 28, 29, 182, 0, 233, 54, 4, 21, 4, 153, 0, 6, 21, 4, 172, 42, 180, 0, 16, 6, 29, 104]
abbrev dktX7_turned_0 : List UInt8 := dkwX7_turned_0 ++ dktX7_turned_1
theorem dksX7_turned_0 : cX7_turned.data.toList.drop 0 = dktX7_turned_0 := by decide +kernel
theorem dksX7_turned_1 : cX7_turned.data.toList.drop 24 = dktX7_turned_1 := dk_seg dksX7_turned_0 24 rfl rfl
theorem dksX7_turned_2 : cX7_turned.data.toList.drop 47 = dktX7_turned_2 := dk_seg dksX7_turned_1 23 rfl rfl
theorem dksX7_turned_3 : cX7_turned.data.toList.drop 71 = dktX7_turned_3 := dk_seg dksX7_turned_2 24 rfl rfl
theorem dksX7_turned_4 : cX7_turned.data.toList.drop 95 = dktX7_turned_4 := dk_seg dksX7_turned_3 24 rfl rfl
theorem dX7_turned_0 : decode cX7_turned 0 = .ok (.aload_n 0, 1) := dk_42 (dk_at dksX7_turned_0 0 rfl rfl)
theorem dX7_turned_1 : decode cX7_turned 1 = .ok (.iload_n 1, 1) := dk_27 (dk_at dksX7_turned_0 1 rfl rfl)
theorem dX7_turned_2 : decode cX7_turned 2 = .ok (.iload_n 2, 1) := dk_28 (dk_at dksX7_turned_0 2 rfl rfl)
theorem dX7_turned_3 : decode cX7_turned 3 = .ok (.iload_n 3, 1) := dk_29 (dk_at dksX7_turned_0 3 rfl rfl)
theorem dX7_turned_4 : decode cX7_turned 4 = .ok (.invokevirtual 233, 3) := dk_182 0 233 (dk_at dksX7_turned_0 4 rfl rfl)
theorem dX7_turned_7 : decode cX7_turned 7 = .ok (.istore 4, 2) := dk_54 4 (dk_at dksX7_turned_0 7 rfl rfl)
theorem dX7_turned_9 : decode cX7_turned 9 = .ok (.iload 4, 2) := dk_21 4 (dk_at dksX7_turned_0 9 rfl rfl)
theorem dX7_turned_11 : decode cX7_turned 11 = .ok (.ifCond .eq 6, 3) := dk_153 0 6 (dk_at dksX7_turned_0 11 rfl rfl)
theorem dX7_turned_14 : decode cX7_turned 14 = .ok (.iload 4, 2) := dk_21 4 (dk_at dksX7_turned_0 14 rfl rfl)
theorem dX7_turned_16 : decode cX7_turned 16 = .ok (.ireturn, 1) := dk_172 (dk_at dksX7_turned_0 16 rfl rfl)
theorem dX7_turned_17 : decode cX7_turned 17 = .ok (.aload_n 0, 1) := dk_42 (dk_at dksX7_turned_0 17 rfl rfl)
theorem dX7_turned_18 : decode cX7_turned 18 = .ok (.getfield 16, 3) := dk_180 0 16 (dk_at dksX7_turned_0 18 rfl rfl)
theorem dX7_turned_21 : decode cX7_turned 21 = .ok (.iconst 3, 1) := dk_6 (dk_at dksX7_turned_0 21 rfl rfl)
theorem dX7_turned_22 : decode cX7_turned 22 = .ok (.iload_n 3, 1) := dk_29 (dk_at dksX7_turned_0 22 rfl rfl)
theorem dX7_turned_23 : decode cX7_turned 23 = .ok (.imul, 1) := dk_104 (dk_at dksX7_turned_0 23 rfl rfl)
theorem dX7_turned_24 : decode cX7_turned 24 = .ok (.iaload, 1) := dk_46 (dk_at dksX7_turned_1 0 rfl rfl)
theorem dX7_turned_25 : decode cX7_turned 25 = .ok (.istore 5, 2) := dk_54 5 (dk_at dksX7_turned_1 1 rfl rfl)
theorem dX7_turned_27 : decode cX7_turned 27 = .ok (.iconst 0, 1) := dk_3 (dk_at dksX7_turned_1 3 rfl rfl)
theorem dX7_turned_28 : decode cX7_turned 28 = .ok (.istore 6, 2) := dk_54 6 (dk_at dksX7_turned_1 4 rfl rfl)
theorem dX7_turned_30 : decode cX7_turned 30 = .ok (.iconst 0, 1) := dk_3 (dk_at dksX7_turned_1 6 rfl rfl)
theorem dX7_turned_31 : decode cX7_turned 31 = .ok (.istore 7, 2) := dk_54 7 (dk_at dksX7_turned_1 7 rfl rfl)
theorem dX7_turned_33 : decode cX7_turned 33 = .ok (.iload 7, 2) := dk_21 7 (dk_at dksX7_turned_1 9 rfl rfl)
theorem dX7_turned_35 : decode cX7_turned 35 = .ok (.bipush 16, 2) := dk_16 16 (dk_at dksX7_turned_1 11 rfl rfl)
theorem dX7_turned_37 : decode cX7_turned 37 = .ok (.if_icmp .ge 48, 3) := dk_162 0 48 (dk_at dksX7_turned_1 13 rfl rfl)
theorem dX7_turned_40 : decode cX7_turned 40 = .ok (.aload_n 0, 1) := dk_42 (dk_at dksX7_turned_1 16 rfl rfl)
theorem dX7_turned_41 : decode cX7_turned 41 = .ok (.getfield 16, 3) := dk_180 0 16 (dk_at dksX7_turned_1 17 rfl rfl)
theorem dX7_turned_44 : decode cX7_turned 44 = .ok (.iconst 3, 1) := dk_6 (dk_at dksX7_turned_1 20 rfl rfl)
theorem dX7_turned_45 : decode cX7_turned 45 = .ok (.iload_n 3, 1) := dk_29 (dk_at dksX7_turned_1 21 rfl rfl)
theorem dX7_turned_46 : decode cX7_turned 46 = .ok (.imul, 1) := dk_104 (dk_at dksX7_turned_1 22 rfl rfl)
theorem dX7_turned_47 : decode cX7_turned 47 = .ok (.iload 5, 2) := dk_21 5 (dk_at dksX7_turned_2 0 rfl rfl)
theorem dX7_turned_49 : decode cX7_turned 49 = .ok (.iconst 1, 1) := dk_4 (dk_at dksX7_turned_2 2 rfl rfl)
theorem dX7_turned_50 : decode cX7_turned 50 = .ok (.iload 7, 2) := dk_21 7 (dk_at dksX7_turned_2 3 rfl rfl)
theorem dX7_turned_52 : decode cX7_turned 52 = .ok (.ishl, 1) := dk_120 (dk_at dksX7_turned_2 5 rfl rfl)
theorem dX7_turned_53 : decode cX7_turned 53 = .ok (.ixor, 1) := dk_130 (dk_at dksX7_turned_2 6 rfl rfl)
theorem dX7_turned_54 : decode cX7_turned 54 = .ok (.iastore, 1) := dk_79 (dk_at dksX7_turned_2 7 rfl rfl)
theorem dX7_turned_55 : decode cX7_turned 55 = .ok (.iload 6, 2) := dk_21 6 (dk_at dksX7_turned_2 8 rfl rfl)
theorem dX7_turned_57 : decode cX7_turned 57 = .ok (.aload_n 0, 1) := dk_42 (dk_at dksX7_turned_2 10 rfl rfl)
theorem dX7_turned_58 : decode cX7_turned 58 = .ok (.iload_n 1, 1) := dk_27 (dk_at dksX7_turned_2 11 rfl rfl)
theorem dX7_turned_59 : decode cX7_turned 59 = .ok (.iload_n 2, 1) := dk_28 (dk_at dksX7_turned_2 12 rfl rfl)
theorem dX7_turned_60 : decode cX7_turned 60 = .ok (.iload_n 3, 1) := dk_29 (dk_at dksX7_turned_2 13 rfl rfl)
theorem dX7_turned_61 : decode cX7_turned 61 = .ok (.invokevirtual 236, 3) := dk_182 0 236 (dk_at dksX7_turned_2 14 rfl rfl)
theorem dX7_turned_64 : decode cX7_turned 64 = .ok (.iconst (-1), 1) := dk_2 (dk_at dksX7_turned_2 17 rfl rfl)
theorem dX7_turned_65 : decode cX7_turned 65 = .ok (.if_icmp .ne 10, 3) := dk_160 0 10 (dk_at dksX7_turned_2 18 rfl rfl)
theorem dX7_turned_68 : decode cX7_turned 68 = .ok (.iconst 1, 1) := dk_4 (dk_at dksX7_turned_2 21 rfl rfl)
theorem dX7_turned_69 : decode cX7_turned 69 = .ok (.iload 7, 2) := dk_21 7 (dk_at dksX7_turned_2 22 rfl rfl)
theorem dX7_turned_71 : decode cX7_turned 71 = .ok (.ishl, 1) := dk_120 (dk_at dksX7_turned_3 0 rfl rfl)
theorem dX7_turned_72 : decode cX7_turned 72 = .ok (.goto 4, 3) := dk_167 0 4 (dk_at dksX7_turned_3 1 rfl rfl)
theorem dX7_turned_75 : decode cX7_turned 75 = .ok (.iconst 0, 1) := dk_3 (dk_at dksX7_turned_3 4 rfl rfl)
theorem dX7_turned_76 : decode cX7_turned 76 = .ok (.ior, 1) := dk_128 (dk_at dksX7_turned_3 5 rfl rfl)
theorem dX7_turned_77 : decode cX7_turned 77 = .ok (.istore 6, 2) := dk_54 6 (dk_at dksX7_turned_3 6 rfl rfl)
theorem dX7_turned_79 : decode cX7_turned 79 = .ok (.iinc 7 1, 3) := dk_132 7 1 (dk_at dksX7_turned_3 8 rfl rfl)
theorem dX7_turned_82 : decode cX7_turned 82 = .ok (.goto (-49), 3) := dk_167 255 207 (dk_at dksX7_turned_3 11 rfl rfl)
theorem dX7_turned_85 : decode cX7_turned 85 = .ok (.aload_n 0, 1) := dk_42 (dk_at dksX7_turned_3 14 rfl rfl)
theorem dX7_turned_86 : decode cX7_turned 86 = .ok (.getfield 16, 3) := dk_180 0 16 (dk_at dksX7_turned_3 15 rfl rfl)
theorem dX7_turned_89 : decode cX7_turned 89 = .ok (.iconst 3, 1) := dk_6 (dk_at dksX7_turned_3 18 rfl rfl)
theorem dX7_turned_90 : decode cX7_turned 90 = .ok (.iload_n 3, 1) := dk_29 (dk_at dksX7_turned_3 19 rfl rfl)
theorem dX7_turned_91 : decode cX7_turned 91 = .ok (.imul, 1) := dk_104 (dk_at dksX7_turned_3 20 rfl rfl)
theorem dX7_turned_92 : decode cX7_turned 92 = .ok (.iload 5, 2) := dk_21 5 (dk_at dksX7_turned_3 21 rfl rfl)
theorem dX7_turned_94 : decode cX7_turned 94 = .ok (.iastore, 1) := dk_79 (dk_at dksX7_turned_3 23 rfl rfl)
theorem dX7_turned_95 : decode cX7_turned 95 = .ok (.iload 6, 2) := dk_21 6 (dk_at dksX7_turned_4 0 rfl rfl)
theorem dX7_turned_97 : decode cX7_turned 97 = .ok (.ireturn, 1) := dk_172 (dk_at dksX7_turned_4 2 rfl rfl)
abbrev cX7_lucks : ByteArray := prog_19_method_65_code
def yX7_lucks : MethodName := ⟨RX7, "lucks", "(IIII)I"⟩
def dkwX7_lucks_6 : List UInt8 := [154, 0, 8, 21, 7, 167, 0, 5, 21, 8, 172]
abbrev dktX7_lucks_6 : List UInt8 := dkwX7_lucks_6 ++ []
def dkwX7_lucks_5 : List UInt8 := [21, 8, 54, 8, 132, 9, 1, 167, 255, 181, 42, 180, 0, 16, 6, 29, 104, 5, 96, 21, 6, 79, 21, 4]
abbrev dktX7_lucks_5 : List UInt8 := dkwX7_lucks_5 ++ dktX7_lucks_6
def dkwX7_lucks_4 : List UInt8 := [167, 0, 4, 3, 96, 54, 7, 21, 10, 153, 0, 14, 21, 8, 2, 160, 0, 8, 21, 9, 167, 0, 5]
abbrev dktX7_lucks_4 : List UInt8 := dkwX7_lucks_4 ++ dktX7_lucks_5
def dkwX7_lucks_3 : List UInt8 := [28, 29, 182, 0, 236, 2, 160, 0, 7, 4, 167, 0, 4, 3, 54, 10, 21, 7, 21, 10, 153, 0, 7, 4]
abbrev dktX7_lucks_3 : List UInt8 := dkwX7_lucks_3 ++ dktX7_lucks_4
def dkwX7_lucks_2 : List UInt8 := [3, 54, 9, 21, 9, 16, 99, 163, 0, 74, 42, 180, 0, 16, 6, 29, 104, 5, 96, 21, 9, 79, 42, 27]
abbrev dktX7_lucks_2 : List UInt8 := dkwX7_lucks_2 ++ dktX7_lucks_3
def dkwX7_lucks_1 : List UInt8 := [154, 0, 6, 16, 249, 172, 42, 180, 0, 16, 6, 29, 104, 5, 96, 46, 54, 6, 3, 54, 7, 2, 54, 8]
abbrev dktX7_lucks_1 : List UInt8 := dkwX7_lucks_1 ++ dktX7_lucks_2
def dkwX7_lucks_0 : List UInt8 := [42, 27, 28, 29, 182, 0, 233, 54, 5, 21, 5, 153, 0, 6, 21, 5, 172, 21, 4, 3, 4, 184, 0, 72]
abbrev dktX7_lucks_0 : List UInt8 := dkwX7_lucks_0 ++ dktX7_lucks_1
theorem dksX7_lucks_0 : cX7_lucks.data.toList.drop 0 = dktX7_lucks_0 := by decide +kernel
theorem dksX7_lucks_1 : cX7_lucks.data.toList.drop 24 = dktX7_lucks_1 := dk_seg dksX7_lucks_0 24 rfl rfl
theorem dksX7_lucks_2 : cX7_lucks.data.toList.drop 48 = dktX7_lucks_2 := dk_seg dksX7_lucks_1 24 rfl rfl
theorem dksX7_lucks_3 : cX7_lucks.data.toList.drop 72 = dktX7_lucks_3 := dk_seg dksX7_lucks_2 24 rfl rfl
theorem dksX7_lucks_4 : cX7_lucks.data.toList.drop 96 = dktX7_lucks_4 := dk_seg dksX7_lucks_3 24 rfl rfl
theorem dksX7_lucks_5 : cX7_lucks.data.toList.drop 119 = dktX7_lucks_5 := dk_seg dksX7_lucks_4 23 rfl rfl
theorem dksX7_lucks_6 : cX7_lucks.data.toList.drop 143 = dktX7_lucks_6 := dk_seg dksX7_lucks_5 24 rfl rfl
theorem dX7_lucks_0 : decode cX7_lucks 0 = .ok (.aload_n 0, 1) := dk_42 (dk_at dksX7_lucks_0 0 rfl rfl)
theorem dX7_lucks_1 : decode cX7_lucks 1 = .ok (.iload_n 1, 1) := dk_27 (dk_at dksX7_lucks_0 1 rfl rfl)
theorem dX7_lucks_2 : decode cX7_lucks 2 = .ok (.iload_n 2, 1) := dk_28 (dk_at dksX7_lucks_0 2 rfl rfl)
theorem dX7_lucks_3 : decode cX7_lucks 3 = .ok (.iload_n 3, 1) := dk_29 (dk_at dksX7_lucks_0 3 rfl rfl)
theorem dX7_lucks_4 : decode cX7_lucks 4 = .ok (.invokevirtual 233, 3) := dk_182 0 233 (dk_at dksX7_lucks_0 4 rfl rfl)
theorem dX7_lucks_7 : decode cX7_lucks 7 = .ok (.istore 5, 2) := dk_54 5 (dk_at dksX7_lucks_0 7 rfl rfl)
theorem dX7_lucks_9 : decode cX7_lucks 9 = .ok (.iload 5, 2) := dk_21 5 (dk_at dksX7_lucks_0 9 rfl rfl)
theorem dX7_lucks_11 : decode cX7_lucks 11 = .ok (.ifCond .eq 6, 3) := dk_153 0 6 (dk_at dksX7_lucks_0 11 rfl rfl)
theorem dX7_lucks_14 : decode cX7_lucks 14 = .ok (.iload 5, 2) := dk_21 5 (dk_at dksX7_lucks_0 14 rfl rfl)
theorem dX7_lucks_16 : decode cX7_lucks 16 = .ok (.ireturn, 1) := dk_172 (dk_at dksX7_lucks_0 16 rfl rfl)
theorem dX7_lucks_17 : decode cX7_lucks 17 = .ok (.iload 4, 2) := dk_21 4 (dk_at dksX7_lucks_0 17 rfl rfl)
theorem dX7_lucks_19 : decode cX7_lucks 19 = .ok (.iconst 0, 1) := dk_3 (dk_at dksX7_lucks_0 19 rfl rfl)
theorem dX7_lucks_20 : decode cX7_lucks 20 = .ok (.iconst 1, 1) := dk_4 (dk_at dksX7_lucks_0 20 rfl rfl)
theorem dX7_lucks_21 : decode cX7_lucks 21 = .ok (.invokestatic 72, 3) := dk_184 0 72 (dk_at dksX7_lucks_0 21 rfl rfl)
theorem dX7_lucks_24 : decode cX7_lucks 24 = .ok (.ifCond .ne 6, 3) := dk_154 0 6 (dk_at dksX7_lucks_1 0 rfl rfl)
theorem dX7_lucks_27 : decode cX7_lucks 27 = .ok (.bipush (-7), 2) := dk_16 249 (dk_at dksX7_lucks_1 3 rfl rfl)
theorem dX7_lucks_29 : decode cX7_lucks 29 = .ok (.ireturn, 1) := dk_172 (dk_at dksX7_lucks_1 5 rfl rfl)
theorem dX7_lucks_30 : decode cX7_lucks 30 = .ok (.aload_n 0, 1) := dk_42 (dk_at dksX7_lucks_1 6 rfl rfl)
theorem dX7_lucks_31 : decode cX7_lucks 31 = .ok (.getfield 16, 3) := dk_180 0 16 (dk_at dksX7_lucks_1 7 rfl rfl)
theorem dX7_lucks_34 : decode cX7_lucks 34 = .ok (.iconst 3, 1) := dk_6 (dk_at dksX7_lucks_1 10 rfl rfl)
theorem dX7_lucks_35 : decode cX7_lucks 35 = .ok (.iload_n 3, 1) := dk_29 (dk_at dksX7_lucks_1 11 rfl rfl)
theorem dX7_lucks_36 : decode cX7_lucks 36 = .ok (.imul, 1) := dk_104 (dk_at dksX7_lucks_1 12 rfl rfl)
theorem dX7_lucks_37 : decode cX7_lucks 37 = .ok (.iconst 2, 1) := dk_5 (dk_at dksX7_lucks_1 13 rfl rfl)
theorem dX7_lucks_38 : decode cX7_lucks 38 = .ok (.iadd, 1) := dk_96 (dk_at dksX7_lucks_1 14 rfl rfl)
theorem dX7_lucks_39 : decode cX7_lucks 39 = .ok (.iaload, 1) := dk_46 (dk_at dksX7_lucks_1 15 rfl rfl)
theorem dX7_lucks_40 : decode cX7_lucks 40 = .ok (.istore 6, 2) := dk_54 6 (dk_at dksX7_lucks_1 16 rfl rfl)
theorem dX7_lucks_42 : decode cX7_lucks 42 = .ok (.iconst 0, 1) := dk_3 (dk_at dksX7_lucks_1 18 rfl rfl)
theorem dX7_lucks_43 : decode cX7_lucks 43 = .ok (.istore 7, 2) := dk_54 7 (dk_at dksX7_lucks_1 19 rfl rfl)
theorem dX7_lucks_45 : decode cX7_lucks 45 = .ok (.iconst (-1), 1) := dk_2 (dk_at dksX7_lucks_1 21 rfl rfl)
theorem dX7_lucks_46 : decode cX7_lucks 46 = .ok (.istore 8, 2) := dk_54 8 (dk_at dksX7_lucks_1 22 rfl rfl)
theorem dX7_lucks_48 : decode cX7_lucks 48 = .ok (.iconst 0, 1) := dk_3 (dk_at dksX7_lucks_2 0 rfl rfl)
theorem dX7_lucks_49 : decode cX7_lucks 49 = .ok (.istore 9, 2) := dk_54 9 (dk_at dksX7_lucks_2 1 rfl rfl)
theorem dX7_lucks_51 : decode cX7_lucks 51 = .ok (.iload 9, 2) := dk_21 9 (dk_at dksX7_lucks_2 3 rfl rfl)
theorem dX7_lucks_53 : decode cX7_lucks 53 = .ok (.bipush 99, 2) := dk_16 99 (dk_at dksX7_lucks_2 5 rfl rfl)
theorem dX7_lucks_55 : decode cX7_lucks 55 = .ok (.if_icmp .gt 74, 3) := dk_163 0 74 (dk_at dksX7_lucks_2 7 rfl rfl)
theorem dX7_lucks_58 : decode cX7_lucks 58 = .ok (.aload_n 0, 1) := dk_42 (dk_at dksX7_lucks_2 10 rfl rfl)
theorem dX7_lucks_59 : decode cX7_lucks 59 = .ok (.getfield 16, 3) := dk_180 0 16 (dk_at dksX7_lucks_2 11 rfl rfl)
theorem dX7_lucks_62 : decode cX7_lucks 62 = .ok (.iconst 3, 1) := dk_6 (dk_at dksX7_lucks_2 14 rfl rfl)
theorem dX7_lucks_63 : decode cX7_lucks 63 = .ok (.iload_n 3, 1) := dk_29 (dk_at dksX7_lucks_2 15 rfl rfl)
theorem dX7_lucks_64 : decode cX7_lucks 64 = .ok (.imul, 1) := dk_104 (dk_at dksX7_lucks_2 16 rfl rfl)
theorem dX7_lucks_65 : decode cX7_lucks 65 = .ok (.iconst 2, 1) := dk_5 (dk_at dksX7_lucks_2 17 rfl rfl)
theorem dX7_lucks_66 : decode cX7_lucks 66 = .ok (.iadd, 1) := dk_96 (dk_at dksX7_lucks_2 18 rfl rfl)
theorem dX7_lucks_67 : decode cX7_lucks 67 = .ok (.iload 9, 2) := dk_21 9 (dk_at dksX7_lucks_2 19 rfl rfl)
theorem dX7_lucks_69 : decode cX7_lucks 69 = .ok (.iastore, 1) := dk_79 (dk_at dksX7_lucks_2 21 rfl rfl)
theorem dX7_lucks_70 : decode cX7_lucks 70 = .ok (.aload_n 0, 1) := dk_42 (dk_at dksX7_lucks_2 22 rfl rfl)
theorem dX7_lucks_71 : decode cX7_lucks 71 = .ok (.iload_n 1, 1) := dk_27 (dk_at dksX7_lucks_2 23 rfl rfl)
theorem dX7_lucks_72 : decode cX7_lucks 72 = .ok (.iload_n 2, 1) := dk_28 (dk_at dksX7_lucks_3 0 rfl rfl)
theorem dX7_lucks_73 : decode cX7_lucks 73 = .ok (.iload_n 3, 1) := dk_29 (dk_at dksX7_lucks_3 1 rfl rfl)
theorem dX7_lucks_74 : decode cX7_lucks 74 = .ok (.invokevirtual 236, 3) := dk_182 0 236 (dk_at dksX7_lucks_3 2 rfl rfl)
theorem dX7_lucks_77 : decode cX7_lucks 77 = .ok (.iconst (-1), 1) := dk_2 (dk_at dksX7_lucks_3 5 rfl rfl)
theorem dX7_lucks_78 : decode cX7_lucks 78 = .ok (.if_icmp .ne 7, 3) := dk_160 0 7 (dk_at dksX7_lucks_3 6 rfl rfl)
theorem dX7_lucks_81 : decode cX7_lucks 81 = .ok (.iconst 1, 1) := dk_4 (dk_at dksX7_lucks_3 9 rfl rfl)
theorem dX7_lucks_82 : decode cX7_lucks 82 = .ok (.goto 4, 3) := dk_167 0 4 (dk_at dksX7_lucks_3 10 rfl rfl)
theorem dX7_lucks_85 : decode cX7_lucks 85 = .ok (.iconst 0, 1) := dk_3 (dk_at dksX7_lucks_3 13 rfl rfl)
theorem dX7_lucks_86 : decode cX7_lucks 86 = .ok (.istore 10, 2) := dk_54 10 (dk_at dksX7_lucks_3 14 rfl rfl)
theorem dX7_lucks_88 : decode cX7_lucks 88 = .ok (.iload 7, 2) := dk_21 7 (dk_at dksX7_lucks_3 16 rfl rfl)
theorem dX7_lucks_90 : decode cX7_lucks 90 = .ok (.iload 10, 2) := dk_21 10 (dk_at dksX7_lucks_3 18 rfl rfl)
theorem dX7_lucks_92 : decode cX7_lucks 92 = .ok (.ifCond .eq 7, 3) := dk_153 0 7 (dk_at dksX7_lucks_3 20 rfl rfl)
theorem dX7_lucks_95 : decode cX7_lucks 95 = .ok (.iconst 1, 1) := dk_4 (dk_at dksX7_lucks_3 23 rfl rfl)
theorem dX7_lucks_96 : decode cX7_lucks 96 = .ok (.goto 4, 3) := dk_167 0 4 (dk_at dksX7_lucks_4 0 rfl rfl)
theorem dX7_lucks_99 : decode cX7_lucks 99 = .ok (.iconst 0, 1) := dk_3 (dk_at dksX7_lucks_4 3 rfl rfl)
theorem dX7_lucks_100 : decode cX7_lucks 100 = .ok (.iadd, 1) := dk_96 (dk_at dksX7_lucks_4 4 rfl rfl)
theorem dX7_lucks_101 : decode cX7_lucks 101 = .ok (.istore 7, 2) := dk_54 7 (dk_at dksX7_lucks_4 5 rfl rfl)
theorem dX7_lucks_103 : decode cX7_lucks 103 = .ok (.iload 10, 2) := dk_21 10 (dk_at dksX7_lucks_4 7 rfl rfl)
theorem dX7_lucks_105 : decode cX7_lucks 105 = .ok (.ifCond .eq 14, 3) := dk_153 0 14 (dk_at dksX7_lucks_4 9 rfl rfl)
theorem dX7_lucks_108 : decode cX7_lucks 108 = .ok (.iload 8, 2) := dk_21 8 (dk_at dksX7_lucks_4 12 rfl rfl)
theorem dX7_lucks_110 : decode cX7_lucks 110 = .ok (.iconst (-1), 1) := dk_2 (dk_at dksX7_lucks_4 14 rfl rfl)
theorem dX7_lucks_111 : decode cX7_lucks 111 = .ok (.if_icmp .ne 8, 3) := dk_160 0 8 (dk_at dksX7_lucks_4 15 rfl rfl)
theorem dX7_lucks_114 : decode cX7_lucks 114 = .ok (.iload 9, 2) := dk_21 9 (dk_at dksX7_lucks_4 18 rfl rfl)
theorem dX7_lucks_116 : decode cX7_lucks 116 = .ok (.goto 5, 3) := dk_167 0 5 (dk_at dksX7_lucks_4 20 rfl rfl)
theorem dX7_lucks_119 : decode cX7_lucks 119 = .ok (.iload 8, 2) := dk_21 8 (dk_at dksX7_lucks_5 0 rfl rfl)
theorem dX7_lucks_121 : decode cX7_lucks 121 = .ok (.istore 8, 2) := dk_54 8 (dk_at dksX7_lucks_5 2 rfl rfl)
theorem dX7_lucks_123 : decode cX7_lucks 123 = .ok (.iinc 9 1, 3) := dk_132 9 1 (dk_at dksX7_lucks_5 4 rfl rfl)
theorem dX7_lucks_126 : decode cX7_lucks 126 = .ok (.goto (-75), 3) := dk_167 255 181 (dk_at dksX7_lucks_5 7 rfl rfl)
theorem dX7_lucks_129 : decode cX7_lucks 129 = .ok (.aload_n 0, 1) := dk_42 (dk_at dksX7_lucks_5 10 rfl rfl)
theorem dX7_lucks_130 : decode cX7_lucks 130 = .ok (.getfield 16, 3) := dk_180 0 16 (dk_at dksX7_lucks_5 11 rfl rfl)
theorem dX7_lucks_133 : decode cX7_lucks 133 = .ok (.iconst 3, 1) := dk_6 (dk_at dksX7_lucks_5 14 rfl rfl)
theorem dX7_lucks_134 : decode cX7_lucks 134 = .ok (.iload_n 3, 1) := dk_29 (dk_at dksX7_lucks_5 15 rfl rfl)
theorem dX7_lucks_135 : decode cX7_lucks 135 = .ok (.imul, 1) := dk_104 (dk_at dksX7_lucks_5 16 rfl rfl)
theorem dX7_lucks_136 : decode cX7_lucks 136 = .ok (.iconst 2, 1) := dk_5 (dk_at dksX7_lucks_5 17 rfl rfl)
theorem dX7_lucks_137 : decode cX7_lucks 137 = .ok (.iadd, 1) := dk_96 (dk_at dksX7_lucks_5 18 rfl rfl)
theorem dX7_lucks_138 : decode cX7_lucks 138 = .ok (.iload 6, 2) := dk_21 6 (dk_at dksX7_lucks_5 19 rfl rfl)
theorem dX7_lucks_140 : decode cX7_lucks 140 = .ok (.iastore, 1) := dk_79 (dk_at dksX7_lucks_5 21 rfl rfl)
theorem dX7_lucks_141 : decode cX7_lucks 141 = .ok (.iload 4, 2) := dk_21 4 (dk_at dksX7_lucks_5 22 rfl rfl)
theorem dX7_lucks_143 : decode cX7_lucks 143 = .ok (.ifCond .ne 8, 3) := dk_154 0 8 (dk_at dksX7_lucks_6 0 rfl rfl)
theorem dX7_lucks_146 : decode cX7_lucks 146 = .ok (.iload 7, 2) := dk_21 7 (dk_at dksX7_lucks_6 3 rfl rfl)
theorem dX7_lucks_148 : decode cX7_lucks 148 = .ok (.goto 5, 3) := dk_167 0 5 (dk_at dksX7_lucks_6 5 rfl rfl)
theorem dX7_lucks_151 : decode cX7_lucks 151 = .ok (.iload 8, 2) := dk_21 8 (dk_at dksX7_lucks_6 8 rfl rfl)
theorem dX7_lucks_153 : decode cX7_lucks 153 = .ok (.ireturn, 1) := dk_172 (dk_at dksX7_lucks_6 10 rfl rfl)
abbrev cX7_whose : ByteArray := prog_19_method_66_code
def yX7_whose : MethodName := ⟨RX7, "whose", "(II)I"⟩
def dkwX7_whose_2 : List UInt8 := [167, 0, 4, 3, 128, 54, 4, 132, 5, 1, 167, 255, 219, 21, 4, 172]
abbrev dktX7_whose_2 : List UInt8 := dkwX7_whose_2 ++ []
def dkwX7_whose_1 : List UInt8 := [180, 0, 69, 162, 0, 34, 21, 4, 42, 27, 28, 21, 5, 182, 0, 236, 2, 160, 0, 10, 4, 21, 5, 120]
abbrev dktX7_whose_1 : List UInt8 := dkwX7_whose_1 ++ dktX7_whose_2
def dkwX7_whose_0 : List UInt8 := [42, 27, 28, 182, 0, 230, 62, 29, 153, 0, 5, 29, 172, 3, 54, 4, 3, 54, 5, 21, 5, 42]
abbrev dktX7_whose_0 : List UInt8 := dkwX7_whose_0 ++ dktX7_whose_1
theorem dksX7_whose_0 : cX7_whose.data.toList.drop 0 = dktX7_whose_0 := by decide +kernel
theorem dksX7_whose_1 : cX7_whose.data.toList.drop 22 = dktX7_whose_1 := dk_seg dksX7_whose_0 22 rfl rfl
theorem dksX7_whose_2 : cX7_whose.data.toList.drop 46 = dktX7_whose_2 := dk_seg dksX7_whose_1 24 rfl rfl
theorem dX7_whose_0 : decode cX7_whose 0 = .ok (.aload_n 0, 1) := dk_42 (dk_at dksX7_whose_0 0 rfl rfl)
theorem dX7_whose_1 : decode cX7_whose 1 = .ok (.iload_n 1, 1) := dk_27 (dk_at dksX7_whose_0 1 rfl rfl)
theorem dX7_whose_2 : decode cX7_whose 2 = .ok (.iload_n 2, 1) := dk_28 (dk_at dksX7_whose_0 2 rfl rfl)
theorem dX7_whose_3 : decode cX7_whose 3 = .ok (.invokevirtual 230, 3) := dk_182 0 230 (dk_at dksX7_whose_0 3 rfl rfl)
theorem dX7_whose_6 : decode cX7_whose 6 = .ok (.istore_n 3, 1) := dk_62 (dk_at dksX7_whose_0 6 rfl rfl)
theorem dX7_whose_7 : decode cX7_whose 7 = .ok (.iload_n 3, 1) := dk_29 (dk_at dksX7_whose_0 7 rfl rfl)
theorem dX7_whose_8 : decode cX7_whose 8 = .ok (.ifCond .eq 5, 3) := dk_153 0 5 (dk_at dksX7_whose_0 8 rfl rfl)
theorem dX7_whose_11 : decode cX7_whose 11 = .ok (.iload_n 3, 1) := dk_29 (dk_at dksX7_whose_0 11 rfl rfl)
theorem dX7_whose_12 : decode cX7_whose 12 = .ok (.ireturn, 1) := dk_172 (dk_at dksX7_whose_0 12 rfl rfl)
theorem dX7_whose_13 : decode cX7_whose 13 = .ok (.iconst 0, 1) := dk_3 (dk_at dksX7_whose_0 13 rfl rfl)
theorem dX7_whose_14 : decode cX7_whose 14 = .ok (.istore 4, 2) := dk_54 4 (dk_at dksX7_whose_0 14 rfl rfl)
theorem dX7_whose_16 : decode cX7_whose 16 = .ok (.iconst 0, 1) := dk_3 (dk_at dksX7_whose_0 16 rfl rfl)
theorem dX7_whose_17 : decode cX7_whose 17 = .ok (.istore 5, 2) := dk_54 5 (dk_at dksX7_whose_0 17 rfl rfl)
theorem dX7_whose_19 : decode cX7_whose 19 = .ok (.iload 5, 2) := dk_21 5 (dk_at dksX7_whose_0 19 rfl rfl)
theorem dX7_whose_21 : decode cX7_whose 21 = .ok (.aload_n 0, 1) := dk_42 (dk_at dksX7_whose_0 21 rfl rfl)
theorem dX7_whose_22 : decode cX7_whose 22 = .ok (.getfield 69, 3) := dk_180 0 69 (dk_at dksX7_whose_1 0 rfl rfl)
theorem dX7_whose_25 : decode cX7_whose 25 = .ok (.if_icmp .ge 34, 3) := dk_162 0 34 (dk_at dksX7_whose_1 3 rfl rfl)
theorem dX7_whose_28 : decode cX7_whose 28 = .ok (.iload 4, 2) := dk_21 4 (dk_at dksX7_whose_1 6 rfl rfl)
theorem dX7_whose_30 : decode cX7_whose 30 = .ok (.aload_n 0, 1) := dk_42 (dk_at dksX7_whose_1 8 rfl rfl)
theorem dX7_whose_31 : decode cX7_whose 31 = .ok (.iload_n 1, 1) := dk_27 (dk_at dksX7_whose_1 9 rfl rfl)
theorem dX7_whose_32 : decode cX7_whose 32 = .ok (.iload_n 2, 1) := dk_28 (dk_at dksX7_whose_1 10 rfl rfl)
theorem dX7_whose_33 : decode cX7_whose 33 = .ok (.iload 5, 2) := dk_21 5 (dk_at dksX7_whose_1 11 rfl rfl)
theorem dX7_whose_35 : decode cX7_whose 35 = .ok (.invokevirtual 236, 3) := dk_182 0 236 (dk_at dksX7_whose_1 13 rfl rfl)
theorem dX7_whose_38 : decode cX7_whose 38 = .ok (.iconst (-1), 1) := dk_2 (dk_at dksX7_whose_1 16 rfl rfl)
theorem dX7_whose_39 : decode cX7_whose 39 = .ok (.if_icmp .ne 10, 3) := dk_160 0 10 (dk_at dksX7_whose_1 17 rfl rfl)
theorem dX7_whose_42 : decode cX7_whose 42 = .ok (.iconst 1, 1) := dk_4 (dk_at dksX7_whose_1 20 rfl rfl)
theorem dX7_whose_43 : decode cX7_whose 43 = .ok (.iload 5, 2) := dk_21 5 (dk_at dksX7_whose_1 21 rfl rfl)
theorem dX7_whose_45 : decode cX7_whose 45 = .ok (.ishl, 1) := dk_120 (dk_at dksX7_whose_1 23 rfl rfl)
theorem dX7_whose_46 : decode cX7_whose 46 = .ok (.goto 4, 3) := dk_167 0 4 (dk_at dksX7_whose_2 0 rfl rfl)
theorem dX7_whose_49 : decode cX7_whose 49 = .ok (.iconst 0, 1) := dk_3 (dk_at dksX7_whose_2 3 rfl rfl)
theorem dX7_whose_50 : decode cX7_whose 50 = .ok (.ior, 1) := dk_128 (dk_at dksX7_whose_2 4 rfl rfl)
theorem dX7_whose_51 : decode cX7_whose 51 = .ok (.istore 4, 2) := dk_54 4 (dk_at dksX7_whose_2 5 rfl rfl)
theorem dX7_whose_53 : decode cX7_whose 53 = .ok (.iinc 5 1, 3) := dk_132 5 1 (dk_at dksX7_whose_2 7 rfl rfl)
theorem dX7_whose_56 : decode cX7_whose 56 = .ok (.goto (-37), 3) := dk_167 255 219 (dk_at dksX7_whose_2 10 rfl rfl)
theorem dX7_whose_59 : decode cX7_whose 59 = .ok (.iload 4, 2) := dk_21 4 (dk_at dksX7_whose_2 13 rfl rfl)
theorem dX7_whose_61 : decode cX7_whose 61 = .ok (.ireturn, 1) := dk_172 (dk_at dksX7_whose_2 15 rfl rfl)
abbrev cX7_laws : ByteArray := prog_19_method_67_code
def yX7_laws : MethodName := ⟨RX7, "laws", "(III)I"⟩
def dkwX7_laws_3 : List UInt8 := [167, 255, 214, 42, 21, 5, 181, 0, 89, 21, 6, 172]
abbrev dktX7_laws_3 : List UInt8 := dkwX7_laws_3 ++ []
def dkwX7_laws_2 : List UInt8 := [28, 29, 182, 0, 236, 2, 160, 0, 10, 4, 21, 7, 120, 167, 0, 4, 3, 128, 54, 6, 132, 7, 1]
abbrev dktX7_laws_2 : List UInt8 := dkwX7_laws_2 ++ dktX7_laws_3
def dkwX7_laws_1 : List UInt8 := [54, 6, 3, 54, 7, 21, 7, 42, 180, 0, 86, 162, 0, 39, 42, 21, 7, 181, 0, 89, 21, 6, 42, 27]
abbrev dktX7_laws_1 : List UInt8 := dkwX7_laws_1 ++ dktX7_laws_2
def dkwX7_laws_0 : List UInt8 := [42, 27, 28, 29, 182, 0, 233, 54, 4, 21, 4, 153, 0, 6, 21, 4, 172, 42, 180, 0, 89, 54, 5, 3]
abbrev dktX7_laws_0 : List UInt8 := dkwX7_laws_0 ++ dktX7_laws_1
theorem dksX7_laws_0 : cX7_laws.data.toList.drop 0 = dktX7_laws_0 := by decide +kernel
theorem dksX7_laws_1 : cX7_laws.data.toList.drop 24 = dktX7_laws_1 := dk_seg dksX7_laws_0 24 rfl rfl
theorem dksX7_laws_2 : cX7_laws.data.toList.drop 48 = dktX7_laws_2 := dk_seg dksX7_laws_1 24 rfl rfl
theorem dksX7_laws_3 : cX7_laws.data.toList.drop 71 = dktX7_laws_3 := dk_seg dksX7_laws_2 23 rfl rfl
theorem dX7_laws_0 : decode cX7_laws 0 = .ok (.aload_n 0, 1) := dk_42 (dk_at dksX7_laws_0 0 rfl rfl)
theorem dX7_laws_1 : decode cX7_laws 1 = .ok (.iload_n 1, 1) := dk_27 (dk_at dksX7_laws_0 1 rfl rfl)
theorem dX7_laws_2 : decode cX7_laws 2 = .ok (.iload_n 2, 1) := dk_28 (dk_at dksX7_laws_0 2 rfl rfl)
theorem dX7_laws_3 : decode cX7_laws 3 = .ok (.iload_n 3, 1) := dk_29 (dk_at dksX7_laws_0 3 rfl rfl)
theorem dX7_laws_4 : decode cX7_laws 4 = .ok (.invokevirtual 233, 3) := dk_182 0 233 (dk_at dksX7_laws_0 4 rfl rfl)
theorem dX7_laws_7 : decode cX7_laws 7 = .ok (.istore 4, 2) := dk_54 4 (dk_at dksX7_laws_0 7 rfl rfl)
theorem dX7_laws_9 : decode cX7_laws 9 = .ok (.iload 4, 2) := dk_21 4 (dk_at dksX7_laws_0 9 rfl rfl)
theorem dX7_laws_11 : decode cX7_laws 11 = .ok (.ifCond .eq 6, 3) := dk_153 0 6 (dk_at dksX7_laws_0 11 rfl rfl)
theorem dX7_laws_14 : decode cX7_laws 14 = .ok (.iload 4, 2) := dk_21 4 (dk_at dksX7_laws_0 14 rfl rfl)
theorem dX7_laws_16 : decode cX7_laws 16 = .ok (.ireturn, 1) := dk_172 (dk_at dksX7_laws_0 16 rfl rfl)
theorem dX7_laws_17 : decode cX7_laws 17 = .ok (.aload_n 0, 1) := dk_42 (dk_at dksX7_laws_0 17 rfl rfl)
theorem dX7_laws_18 : decode cX7_laws 18 = .ok (.getfield 89, 3) := dk_180 0 89 (dk_at dksX7_laws_0 18 rfl rfl)
theorem dX7_laws_21 : decode cX7_laws 21 = .ok (.istore 5, 2) := dk_54 5 (dk_at dksX7_laws_0 21 rfl rfl)
theorem dX7_laws_23 : decode cX7_laws 23 = .ok (.iconst 0, 1) := dk_3 (dk_at dksX7_laws_0 23 rfl rfl)
theorem dX7_laws_24 : decode cX7_laws 24 = .ok (.istore 6, 2) := dk_54 6 (dk_at dksX7_laws_1 0 rfl rfl)
theorem dX7_laws_26 : decode cX7_laws 26 = .ok (.iconst 0, 1) := dk_3 (dk_at dksX7_laws_1 2 rfl rfl)
theorem dX7_laws_27 : decode cX7_laws 27 = .ok (.istore 7, 2) := dk_54 7 (dk_at dksX7_laws_1 3 rfl rfl)
theorem dX7_laws_29 : decode cX7_laws 29 = .ok (.iload 7, 2) := dk_21 7 (dk_at dksX7_laws_1 5 rfl rfl)
theorem dX7_laws_31 : decode cX7_laws 31 = .ok (.aload_n 0, 1) := dk_42 (dk_at dksX7_laws_1 7 rfl rfl)
theorem dX7_laws_32 : decode cX7_laws 32 = .ok (.getfield 86, 3) := dk_180 0 86 (dk_at dksX7_laws_1 8 rfl rfl)
theorem dX7_laws_35 : decode cX7_laws 35 = .ok (.if_icmp .ge 39, 3) := dk_162 0 39 (dk_at dksX7_laws_1 11 rfl rfl)
theorem dX7_laws_38 : decode cX7_laws 38 = .ok (.aload_n 0, 1) := dk_42 (dk_at dksX7_laws_1 14 rfl rfl)
theorem dX7_laws_39 : decode cX7_laws 39 = .ok (.iload 7, 2) := dk_21 7 (dk_at dksX7_laws_1 15 rfl rfl)
theorem dX7_laws_41 : decode cX7_laws 41 = .ok (.putfield 89, 3) := dk_181 0 89 (dk_at dksX7_laws_1 17 rfl rfl)
theorem dX7_laws_44 : decode cX7_laws 44 = .ok (.iload 6, 2) := dk_21 6 (dk_at dksX7_laws_1 20 rfl rfl)
theorem dX7_laws_46 : decode cX7_laws 46 = .ok (.aload_n 0, 1) := dk_42 (dk_at dksX7_laws_1 22 rfl rfl)
theorem dX7_laws_47 : decode cX7_laws 47 = .ok (.iload_n 1, 1) := dk_27 (dk_at dksX7_laws_1 23 rfl rfl)
theorem dX7_laws_48 : decode cX7_laws 48 = .ok (.iload_n 2, 1) := dk_28 (dk_at dksX7_laws_2 0 rfl rfl)
theorem dX7_laws_49 : decode cX7_laws 49 = .ok (.iload_n 3, 1) := dk_29 (dk_at dksX7_laws_2 1 rfl rfl)
theorem dX7_laws_50 : decode cX7_laws 50 = .ok (.invokevirtual 236, 3) := dk_182 0 236 (dk_at dksX7_laws_2 2 rfl rfl)
theorem dX7_laws_53 : decode cX7_laws 53 = .ok (.iconst (-1), 1) := dk_2 (dk_at dksX7_laws_2 5 rfl rfl)
theorem dX7_laws_54 : decode cX7_laws 54 = .ok (.if_icmp .ne 10, 3) := dk_160 0 10 (dk_at dksX7_laws_2 6 rfl rfl)
theorem dX7_laws_57 : decode cX7_laws 57 = .ok (.iconst 1, 1) := dk_4 (dk_at dksX7_laws_2 9 rfl rfl)
theorem dX7_laws_58 : decode cX7_laws 58 = .ok (.iload 7, 2) := dk_21 7 (dk_at dksX7_laws_2 10 rfl rfl)
theorem dX7_laws_60 : decode cX7_laws 60 = .ok (.ishl, 1) := dk_120 (dk_at dksX7_laws_2 12 rfl rfl)
theorem dX7_laws_61 : decode cX7_laws 61 = .ok (.goto 4, 3) := dk_167 0 4 (dk_at dksX7_laws_2 13 rfl rfl)
theorem dX7_laws_64 : decode cX7_laws 64 = .ok (.iconst 0, 1) := dk_3 (dk_at dksX7_laws_2 16 rfl rfl)
theorem dX7_laws_65 : decode cX7_laws 65 = .ok (.ior, 1) := dk_128 (dk_at dksX7_laws_2 17 rfl rfl)
theorem dX7_laws_66 : decode cX7_laws 66 = .ok (.istore 6, 2) := dk_54 6 (dk_at dksX7_laws_2 18 rfl rfl)
theorem dX7_laws_68 : decode cX7_laws 68 = .ok (.iinc 7 1, 3) := dk_132 7 1 (dk_at dksX7_laws_2 20 rfl rfl)
theorem dX7_laws_71 : decode cX7_laws 71 = .ok (.goto (-42), 3) := dk_167 255 214 (dk_at dksX7_laws_3 0 rfl rfl)
theorem dX7_laws_74 : decode cX7_laws 74 = .ok (.aload_n 0, 1) := dk_42 (dk_at dksX7_laws_3 3 rfl rfl)
theorem dX7_laws_75 : decode cX7_laws 75 = .ok (.iload 5, 2) := dk_21 5 (dk_at dksX7_laws_3 4 rfl rfl)
theorem dX7_laws_77 : decode cX7_laws 77 = .ok (.putfield 89, 3) := dk_181 0 89 (dk_at dksX7_laws_3 6 rfl rfl)
theorem dX7_laws_80 : decode cX7_laws 80 = .ok (.iload 6, 2) := dk_21 6 (dk_at dksX7_laws_3 9 rfl rfl)
theorem dX7_laws_82 : decode cX7_laws 82 = .ok (.ireturn, 1) := dk_172 (dk_at dksX7_laws_3 11 rfl rfl)
abbrev cX7_film : ByteArray := prog_19_method_68_code
def yX7_film : MethodName := ⟨RX7, "film", "(III)I"⟩
def dkwX7_film_6 : List UInt8 := [182, 0, 189, 87, 132, 5, 1, 167, 255, 171, 42, 182, 0, 208, 42, 180, 0, 37, 27, 46, 172]
abbrev dktX7_film_6 : List UInt8 := dkwX7_film_6 ++ []
def dkwX7_film_5 : List UInt8 := [180, 0, 40, 16, 40, 28, 104, 21, 5, 96, 42, 180, 0, 16, 6, 29, 104, 5, 96, 46, 79, 42]
abbrev dktX7_film_5 : List UInt8 := dkwX7_film_5 ++ dktX7_film_6
def dkwX7_film_4 : List UInt8 := [180, 0, 40, 16, 40, 27, 104, 21, 5, 96, 46, 3, 16, 15, 184, 0, 159, 182, 0, 183, 87, 42]
abbrev dktX7_film_4 : List UInt8 := dkwX7_film_4 ++ dktX7_film_5
def dkwX7_film_3 : List UInt8 := [16, 40, 28, 104, 21, 5, 96, 3, 79, 21, 5, 42, 180, 0, 37, 27, 46, 162, 0, 54, 42, 29, 42]
abbrev dktX7_film_3 : List UInt8 := dkwX7_film_3 ++ dktX7_film_4
def dkwX7_film_2 : List UInt8 := [180, 0, 37, 27, 46, 79, 42, 182, 0, 201, 3, 54, 5, 21, 5, 16, 40, 162, 0, 84, 42, 180, 0, 40]
abbrev dktX7_film_2 : List UInt8 := dkwX7_film_2 ++ dktX7_film_3
def dkwX7_film_1 : List UInt8 := [54, 4, 21, 4, 153, 0, 6, 21, 4, 172, 42, 180, 0, 34, 28, 3, 79, 42, 180, 0, 37, 28, 42]
abbrev dktX7_film_1 : List UInt8 := dkwX7_film_1 ++ dktX7_film_2
def dkwX7_film_0 : List UInt8 := [28, 3, 6, 184, 0, 72, 153, 0, 8, 27, 28, 160, 0, 6, 16, 254, 172, 42, 27, 29, 182, 0, 198]
abbrev dktX7_film_0 : List UInt8 := dkwX7_film_0 ++ dktX7_film_1
theorem dksX7_film_0 : cX7_film.data.toList.drop 0 = dktX7_film_0 := by decide +kernel
theorem dksX7_film_1 : cX7_film.data.toList.drop 23 = dktX7_film_1 := dk_seg dksX7_film_0 23 rfl rfl
theorem dksX7_film_2 : cX7_film.data.toList.drop 46 = dktX7_film_2 := dk_seg dksX7_film_1 23 rfl rfl
theorem dksX7_film_3 : cX7_film.data.toList.drop 70 = dktX7_film_3 := dk_seg dksX7_film_2 24 rfl rfl
theorem dksX7_film_4 : cX7_film.data.toList.drop 93 = dktX7_film_4 := dk_seg dksX7_film_3 23 rfl rfl
theorem dksX7_film_5 : cX7_film.data.toList.drop 115 = dktX7_film_5 := dk_seg dksX7_film_4 22 rfl rfl
theorem dksX7_film_6 : cX7_film.data.toList.drop 137 = dktX7_film_6 := dk_seg dksX7_film_5 22 rfl rfl
theorem dX7_film_0 : decode cX7_film 0 = .ok (.iload_n 2, 1) := dk_28 (dk_at dksX7_film_0 0 rfl rfl)
theorem dX7_film_1 : decode cX7_film 1 = .ok (.iconst 0, 1) := dk_3 (dk_at dksX7_film_0 1 rfl rfl)
theorem dX7_film_2 : decode cX7_film 2 = .ok (.iconst 3, 1) := dk_6 (dk_at dksX7_film_0 2 rfl rfl)
theorem dX7_film_3 : decode cX7_film 3 = .ok (.invokestatic 72, 3) := dk_184 0 72 (dk_at dksX7_film_0 3 rfl rfl)
theorem dX7_film_6 : decode cX7_film 6 = .ok (.ifCond .eq 8, 3) := dk_153 0 8 (dk_at dksX7_film_0 6 rfl rfl)
theorem dX7_film_9 : decode cX7_film 9 = .ok (.iload_n 1, 1) := dk_27 (dk_at dksX7_film_0 9 rfl rfl)
theorem dX7_film_10 : decode cX7_film 10 = .ok (.iload_n 2, 1) := dk_28 (dk_at dksX7_film_0 10 rfl rfl)
theorem dX7_film_11 : decode cX7_film 11 = .ok (.if_icmp .ne 6, 3) := dk_160 0 6 (dk_at dksX7_film_0 11 rfl rfl)
theorem dX7_film_14 : decode cX7_film 14 = .ok (.bipush (-2), 2) := dk_16 254 (dk_at dksX7_film_0 14 rfl rfl)
theorem dX7_film_16 : decode cX7_film 16 = .ok (.ireturn, 1) := dk_172 (dk_at dksX7_film_0 16 rfl rfl)
theorem dX7_film_17 : decode cX7_film 17 = .ok (.aload_n 0, 1) := dk_42 (dk_at dksX7_film_0 17 rfl rfl)
theorem dX7_film_18 : decode cX7_film 18 = .ok (.iload_n 1, 1) := dk_27 (dk_at dksX7_film_0 18 rfl rfl)
theorem dX7_film_19 : decode cX7_film 19 = .ok (.iload_n 3, 1) := dk_29 (dk_at dksX7_film_0 19 rfl rfl)
theorem dX7_film_20 : decode cX7_film 20 = .ok (.invokevirtual 198, 3) := dk_182 0 198 (dk_at dksX7_film_0 20 rfl rfl)
theorem dX7_film_23 : decode cX7_film 23 = .ok (.istore 4, 2) := dk_54 4 (dk_at dksX7_film_1 0 rfl rfl)
theorem dX7_film_25 : decode cX7_film 25 = .ok (.iload 4, 2) := dk_21 4 (dk_at dksX7_film_1 2 rfl rfl)
theorem dX7_film_27 : decode cX7_film 27 = .ok (.ifCond .eq 6, 3) := dk_153 0 6 (dk_at dksX7_film_1 4 rfl rfl)
theorem dX7_film_30 : decode cX7_film 30 = .ok (.iload 4, 2) := dk_21 4 (dk_at dksX7_film_1 7 rfl rfl)
theorem dX7_film_32 : decode cX7_film 32 = .ok (.ireturn, 1) := dk_172 (dk_at dksX7_film_1 9 rfl rfl)
theorem dX7_film_33 : decode cX7_film 33 = .ok (.aload_n 0, 1) := dk_42 (dk_at dksX7_film_1 10 rfl rfl)
theorem dX7_film_34 : decode cX7_film 34 = .ok (.getfield 34, 3) := dk_180 0 34 (dk_at dksX7_film_1 11 rfl rfl)
theorem dX7_film_37 : decode cX7_film 37 = .ok (.iload_n 2, 1) := dk_28 (dk_at dksX7_film_1 14 rfl rfl)
theorem dX7_film_38 : decode cX7_film 38 = .ok (.iconst 0, 1) := dk_3 (dk_at dksX7_film_1 15 rfl rfl)
theorem dX7_film_39 : decode cX7_film 39 = .ok (.iastore, 1) := dk_79 (dk_at dksX7_film_1 16 rfl rfl)
theorem dX7_film_40 : decode cX7_film 40 = .ok (.aload_n 0, 1) := dk_42 (dk_at dksX7_film_1 17 rfl rfl)
theorem dX7_film_41 : decode cX7_film 41 = .ok (.getfield 37, 3) := dk_180 0 37 (dk_at dksX7_film_1 18 rfl rfl)
theorem dX7_film_44 : decode cX7_film 44 = .ok (.iload_n 2, 1) := dk_28 (dk_at dksX7_film_1 21 rfl rfl)
theorem dX7_film_45 : decode cX7_film 45 = .ok (.aload_n 0, 1) := dk_42 (dk_at dksX7_film_1 22 rfl rfl)
theorem dX7_film_46 : decode cX7_film 46 = .ok (.getfield 37, 3) := dk_180 0 37 (dk_at dksX7_film_2 0 rfl rfl)
theorem dX7_film_49 : decode cX7_film 49 = .ok (.iload_n 1, 1) := dk_27 (dk_at dksX7_film_2 3 rfl rfl)
theorem dX7_film_50 : decode cX7_film 50 = .ok (.iaload, 1) := dk_46 (dk_at dksX7_film_2 4 rfl rfl)
theorem dX7_film_51 : decode cX7_film 51 = .ok (.iastore, 1) := dk_79 (dk_at dksX7_film_2 5 rfl rfl)
theorem dX7_film_52 : decode cX7_film 52 = .ok (.aload_n 0, 1) := dk_42 (dk_at dksX7_film_2 6 rfl rfl)
theorem dX7_film_53 : decode cX7_film 53 = .ok (.invokevirtual 201, 3) := dk_182 0 201 (dk_at dksX7_film_2 7 rfl rfl)
theorem dX7_film_56 : decode cX7_film 56 = .ok (.iconst 0, 1) := dk_3 (dk_at dksX7_film_2 10 rfl rfl)
theorem dX7_film_57 : decode cX7_film 57 = .ok (.istore 5, 2) := dk_54 5 (dk_at dksX7_film_2 11 rfl rfl)
theorem dX7_film_59 : decode cX7_film 59 = .ok (.iload 5, 2) := dk_21 5 (dk_at dksX7_film_2 13 rfl rfl)
theorem dX7_film_61 : decode cX7_film 61 = .ok (.bipush 40, 2) := dk_16 40 (dk_at dksX7_film_2 15 rfl rfl)
theorem dX7_film_63 : decode cX7_film 63 = .ok (.if_icmp .ge 84, 3) := dk_162 0 84 (dk_at dksX7_film_2 17 rfl rfl)
theorem dX7_film_66 : decode cX7_film 66 = .ok (.aload_n 0, 1) := dk_42 (dk_at dksX7_film_2 20 rfl rfl)
theorem dX7_film_67 : decode cX7_film 67 = .ok (.getfield 40, 3) := dk_180 0 40 (dk_at dksX7_film_2 21 rfl rfl)
theorem dX7_film_70 : decode cX7_film 70 = .ok (.bipush 40, 2) := dk_16 40 (dk_at dksX7_film_3 0 rfl rfl)
theorem dX7_film_72 : decode cX7_film 72 = .ok (.iload_n 2, 1) := dk_28 (dk_at dksX7_film_3 2 rfl rfl)
theorem dX7_film_73 : decode cX7_film 73 = .ok (.imul, 1) := dk_104 (dk_at dksX7_film_3 3 rfl rfl)
theorem dX7_film_74 : decode cX7_film 74 = .ok (.iload 5, 2) := dk_21 5 (dk_at dksX7_film_3 4 rfl rfl)
theorem dX7_film_76 : decode cX7_film 76 = .ok (.iadd, 1) := dk_96 (dk_at dksX7_film_3 6 rfl rfl)
theorem dX7_film_77 : decode cX7_film 77 = .ok (.iconst 0, 1) := dk_3 (dk_at dksX7_film_3 7 rfl rfl)
theorem dX7_film_78 : decode cX7_film 78 = .ok (.iastore, 1) := dk_79 (dk_at dksX7_film_3 8 rfl rfl)
theorem dX7_film_79 : decode cX7_film 79 = .ok (.iload 5, 2) := dk_21 5 (dk_at dksX7_film_3 9 rfl rfl)
theorem dX7_film_81 : decode cX7_film 81 = .ok (.aload_n 0, 1) := dk_42 (dk_at dksX7_film_3 11 rfl rfl)
theorem dX7_film_82 : decode cX7_film 82 = .ok (.getfield 37, 3) := dk_180 0 37 (dk_at dksX7_film_3 12 rfl rfl)
theorem dX7_film_85 : decode cX7_film 85 = .ok (.iload_n 1, 1) := dk_27 (dk_at dksX7_film_3 15 rfl rfl)
theorem dX7_film_86 : decode cX7_film 86 = .ok (.iaload, 1) := dk_46 (dk_at dksX7_film_3 16 rfl rfl)
theorem dX7_film_87 : decode cX7_film 87 = .ok (.if_icmp .ge 54, 3) := dk_162 0 54 (dk_at dksX7_film_3 17 rfl rfl)
theorem dX7_film_90 : decode cX7_film 90 = .ok (.aload_n 0, 1) := dk_42 (dk_at dksX7_film_3 20 rfl rfl)
theorem dX7_film_91 : decode cX7_film 91 = .ok (.iload_n 3, 1) := dk_29 (dk_at dksX7_film_3 21 rfl rfl)
theorem dX7_film_92 : decode cX7_film 92 = .ok (.aload_n 0, 1) := dk_42 (dk_at dksX7_film_3 22 rfl rfl)
theorem dX7_film_93 : decode cX7_film 93 = .ok (.getfield 40, 3) := dk_180 0 40 (dk_at dksX7_film_4 0 rfl rfl)
theorem dX7_film_96 : decode cX7_film 96 = .ok (.bipush 40, 2) := dk_16 40 (dk_at dksX7_film_4 3 rfl rfl)
theorem dX7_film_98 : decode cX7_film 98 = .ok (.iload_n 1, 1) := dk_27 (dk_at dksX7_film_4 5 rfl rfl)
theorem dX7_film_99 : decode cX7_film 99 = .ok (.imul, 1) := dk_104 (dk_at dksX7_film_4 6 rfl rfl)
theorem dX7_film_100 : decode cX7_film 100 = .ok (.iload 5, 2) := dk_21 5 (dk_at dksX7_film_4 7 rfl rfl)
theorem dX7_film_102 : decode cX7_film 102 = .ok (.iadd, 1) := dk_96 (dk_at dksX7_film_4 9 rfl rfl)
theorem dX7_film_103 : decode cX7_film 103 = .ok (.iaload, 1) := dk_46 (dk_at dksX7_film_4 10 rfl rfl)
theorem dX7_film_104 : decode cX7_film 104 = .ok (.iconst 0, 1) := dk_3 (dk_at dksX7_film_4 11 rfl rfl)
theorem dX7_film_105 : decode cX7_film 105 = .ok (.bipush 15, 2) := dk_16 15 (dk_at dksX7_film_4 12 rfl rfl)
theorem dX7_film_107 : decode cX7_film 107 = .ok (.invokestatic 159, 3) := dk_184 0 159 (dk_at dksX7_film_4 14 rfl rfl)
theorem dX7_film_110 : decode cX7_film 110 = .ok (.invokevirtual 183, 3) := dk_182 0 183 (dk_at dksX7_film_4 17 rfl rfl)
theorem dX7_film_113 : decode cX7_film 113 = .ok (.pop, 1) := dk_87 (dk_at dksX7_film_4 20 rfl rfl)
theorem dX7_film_114 : decode cX7_film 114 = .ok (.aload_n 0, 1) := dk_42 (dk_at dksX7_film_4 21 rfl rfl)
theorem dX7_film_115 : decode cX7_film 115 = .ok (.getfield 40, 3) := dk_180 0 40 (dk_at dksX7_film_5 0 rfl rfl)
theorem dX7_film_118 : decode cX7_film 118 = .ok (.bipush 40, 2) := dk_16 40 (dk_at dksX7_film_5 3 rfl rfl)
theorem dX7_film_120 : decode cX7_film 120 = .ok (.iload_n 2, 1) := dk_28 (dk_at dksX7_film_5 5 rfl rfl)
theorem dX7_film_121 : decode cX7_film 121 = .ok (.imul, 1) := dk_104 (dk_at dksX7_film_5 6 rfl rfl)
theorem dX7_film_122 : decode cX7_film 122 = .ok (.iload 5, 2) := dk_21 5 (dk_at dksX7_film_5 7 rfl rfl)
theorem dX7_film_124 : decode cX7_film 124 = .ok (.iadd, 1) := dk_96 (dk_at dksX7_film_5 9 rfl rfl)
theorem dX7_film_125 : decode cX7_film 125 = .ok (.aload_n 0, 1) := dk_42 (dk_at dksX7_film_5 10 rfl rfl)
theorem dX7_film_126 : decode cX7_film 126 = .ok (.getfield 16, 3) := dk_180 0 16 (dk_at dksX7_film_5 11 rfl rfl)
theorem dX7_film_129 : decode cX7_film 129 = .ok (.iconst 3, 1) := dk_6 (dk_at dksX7_film_5 14 rfl rfl)
theorem dX7_film_130 : decode cX7_film 130 = .ok (.iload_n 3, 1) := dk_29 (dk_at dksX7_film_5 15 rfl rfl)
theorem dX7_film_131 : decode cX7_film 131 = .ok (.imul, 1) := dk_104 (dk_at dksX7_film_5 16 rfl rfl)
theorem dX7_film_132 : decode cX7_film 132 = .ok (.iconst 2, 1) := dk_5 (dk_at dksX7_film_5 17 rfl rfl)
theorem dX7_film_133 : decode cX7_film 133 = .ok (.iadd, 1) := dk_96 (dk_at dksX7_film_5 18 rfl rfl)
theorem dX7_film_134 : decode cX7_film 134 = .ok (.iaload, 1) := dk_46 (dk_at dksX7_film_5 19 rfl rfl)
theorem dX7_film_135 : decode cX7_film 135 = .ok (.iastore, 1) := dk_79 (dk_at dksX7_film_5 20 rfl rfl)
theorem dX7_film_136 : decode cX7_film 136 = .ok (.aload_n 0, 1) := dk_42 (dk_at dksX7_film_5 21 rfl rfl)
theorem dX7_film_137 : decode cX7_film 137 = .ok (.invokevirtual 189, 3) := dk_182 0 189 (dk_at dksX7_film_6 0 rfl rfl)
theorem dX7_film_140 : decode cX7_film 140 = .ok (.pop, 1) := dk_87 (dk_at dksX7_film_6 3 rfl rfl)
theorem dX7_film_141 : decode cX7_film 141 = .ok (.iinc 5 1, 3) := dk_132 5 1 (dk_at dksX7_film_6 4 rfl rfl)
theorem dX7_film_144 : decode cX7_film 144 = .ok (.goto (-85), 3) := dk_167 255 171 (dk_at dksX7_film_6 7 rfl rfl)
theorem dX7_film_147 : decode cX7_film 147 = .ok (.aload_n 0, 1) := dk_42 (dk_at dksX7_film_6 10 rfl rfl)
theorem dX7_film_148 : decode cX7_film 148 = .ok (.invokevirtual 208, 3) := dk_182 0 208 (dk_at dksX7_film_6 11 rfl rfl)
theorem dX7_film_151 : decode cX7_film 151 = .ok (.aload_n 0, 1) := dk_42 (dk_at dksX7_film_6 14 rfl rfl)
theorem dX7_film_152 : decode cX7_film 152 = .ok (.getfield 37, 3) := dk_180 0 37 (dk_at dksX7_film_6 15 rfl rfl)
theorem dX7_film_155 : decode cX7_film 155 = .ok (.iload_n 1, 1) := dk_27 (dk_at dksX7_film_6 18 rfl rfl)
theorem dX7_film_156 : decode cX7_film 156 = .ok (.iaload, 1) := dk_46 (dk_at dksX7_film_6 19 rfl rfl)
theorem dX7_film_157 : decode cX7_film 157 = .ok (.ireturn, 1) := dk_172 (dk_at dksX7_film_6 20 rfl rfl)
abbrev cX7_drawn : ByteArray := prog_19_method_70_code
def yX7_drawn : MethodName := ⟨RX7, "drawn", "(III)I"⟩
def dkwX7_drawn_2 : List UInt8 := [167, 0, 7, 42, 180, 0, 247, 172]
abbrev dktX7_drawn_2 : List UInt8 := dkwX7_drawn_2 ++ []
def dkwX7_drawn_1 : List UInt8 := [184, 0, 72, 154, 0, 6, 16, 254, 172, 42, 27, 28, 182, 0, 251, 54, 4, 29, 154, 0, 8, 21, 4]
abbrev dktX7_drawn_1 : List UInt8 := dkwX7_drawn_1 ++ dktX7_drawn_2
def dkwX7_drawn_0 : List UInt8 := [27, 3, 18, 250, 184, 0, 72, 153, 0, 22, 28, 3, 16, 60, 184, 0, 72, 153, 0, 12, 29, 3, 4]
abbrev dktX7_drawn_0 : List UInt8 := dkwX7_drawn_0 ++ dktX7_drawn_1
theorem dksX7_drawn_0 : cX7_drawn.data.toList.drop 0 = dktX7_drawn_0 := by decide +kernel
theorem dksX7_drawn_1 : cX7_drawn.data.toList.drop 23 = dktX7_drawn_1 := dk_seg dksX7_drawn_0 23 rfl rfl
theorem dksX7_drawn_2 : cX7_drawn.data.toList.drop 46 = dktX7_drawn_2 := dk_seg dksX7_drawn_1 23 rfl rfl
theorem dX7_drawn_0 : decode cX7_drawn 0 = .ok (.iload_n 1, 1) := dk_27 (dk_at dksX7_drawn_0 0 rfl rfl)
theorem dX7_drawn_1 : decode cX7_drawn 1 = .ok (.iconst 0, 1) := dk_3 (dk_at dksX7_drawn_0 1 rfl rfl)
theorem dX7_drawn_2 : decode cX7_drawn 2 = .ok (.ldc 250, 2) := dk_18 250 (dk_at dksX7_drawn_0 2 rfl rfl)
theorem dX7_drawn_4 : decode cX7_drawn 4 = .ok (.invokestatic 72, 3) := dk_184 0 72 (dk_at dksX7_drawn_0 4 rfl rfl)
theorem dX7_drawn_7 : decode cX7_drawn 7 = .ok (.ifCond .eq 22, 3) := dk_153 0 22 (dk_at dksX7_drawn_0 7 rfl rfl)
theorem dX7_drawn_10 : decode cX7_drawn 10 = .ok (.iload_n 2, 1) := dk_28 (dk_at dksX7_drawn_0 10 rfl rfl)
theorem dX7_drawn_11 : decode cX7_drawn 11 = .ok (.iconst 0, 1) := dk_3 (dk_at dksX7_drawn_0 11 rfl rfl)
theorem dX7_drawn_12 : decode cX7_drawn 12 = .ok (.bipush 60, 2) := dk_16 60 (dk_at dksX7_drawn_0 12 rfl rfl)
theorem dX7_drawn_14 : decode cX7_drawn 14 = .ok (.invokestatic 72, 3) := dk_184 0 72 (dk_at dksX7_drawn_0 14 rfl rfl)
theorem dX7_drawn_17 : decode cX7_drawn 17 = .ok (.ifCond .eq 12, 3) := dk_153 0 12 (dk_at dksX7_drawn_0 17 rfl rfl)
theorem dX7_drawn_20 : decode cX7_drawn 20 = .ok (.iload_n 3, 1) := dk_29 (dk_at dksX7_drawn_0 20 rfl rfl)
theorem dX7_drawn_21 : decode cX7_drawn 21 = .ok (.iconst 0, 1) := dk_3 (dk_at dksX7_drawn_0 21 rfl rfl)
theorem dX7_drawn_22 : decode cX7_drawn 22 = .ok (.iconst 1, 1) := dk_4 (dk_at dksX7_drawn_0 22 rfl rfl)
theorem dX7_drawn_23 : decode cX7_drawn 23 = .ok (.invokestatic 72, 3) := dk_184 0 72 (dk_at dksX7_drawn_1 0 rfl rfl)
theorem dX7_drawn_26 : decode cX7_drawn 26 = .ok (.ifCond .ne 6, 3) := dk_154 0 6 (dk_at dksX7_drawn_1 3 rfl rfl)
theorem dX7_drawn_29 : decode cX7_drawn 29 = .ok (.bipush (-2), 2) := dk_16 254 (dk_at dksX7_drawn_1 6 rfl rfl)
theorem dX7_drawn_31 : decode cX7_drawn 31 = .ok (.ireturn, 1) := dk_172 (dk_at dksX7_drawn_1 8 rfl rfl)
theorem dX7_drawn_32 : decode cX7_drawn 32 = .ok (.aload_n 0, 1) := dk_42 (dk_at dksX7_drawn_1 9 rfl rfl)
theorem dX7_drawn_33 : decode cX7_drawn 33 = .ok (.iload_n 1, 1) := dk_27 (dk_at dksX7_drawn_1 10 rfl rfl)
theorem dX7_drawn_34 : decode cX7_drawn 34 = .ok (.iload_n 2, 1) := dk_28 (dk_at dksX7_drawn_1 11 rfl rfl)
theorem dX7_drawn_35 : decode cX7_drawn 35 = .ok (.invokevirtual 251, 3) := dk_182 0 251 (dk_at dksX7_drawn_1 12 rfl rfl)
theorem dX7_drawn_38 : decode cX7_drawn 38 = .ok (.istore 4, 2) := dk_54 4 (dk_at dksX7_drawn_1 15 rfl rfl)
theorem dX7_drawn_40 : decode cX7_drawn 40 = .ok (.iload_n 3, 1) := dk_29 (dk_at dksX7_drawn_1 17 rfl rfl)
theorem dX7_drawn_41 : decode cX7_drawn 41 = .ok (.ifCond .ne 8, 3) := dk_154 0 8 (dk_at dksX7_drawn_1 18 rfl rfl)
theorem dX7_drawn_44 : decode cX7_drawn 44 = .ok (.iload 4, 2) := dk_21 4 (dk_at dksX7_drawn_1 21 rfl rfl)
theorem dX7_drawn_46 : decode cX7_drawn 46 = .ok (.goto 7, 3) := dk_167 0 7 (dk_at dksX7_drawn_2 0 rfl rfl)
theorem dX7_drawn_49 : decode cX7_drawn 49 = .ok (.aload_n 0, 1) := dk_42 (dk_at dksX7_drawn_2 3 rfl rfl)
theorem dX7_drawn_50 : decode cX7_drawn 50 = .ok (.getfield 247, 3) := dk_180 0 247 (dk_at dksX7_drawn_2 4 rfl rfl)
theorem dX7_drawn_53 : decode cX7_drawn 53 = .ok (.ireturn, 1) := dk_172 (dk_at dksX7_drawn_2 7 rfl rfl)
abbrev cX7_lotSeasons : ByteArray := prog_19_method_69_code
def yX7_lotSeasons : MethodName := ⟨RX7, "lotSeasons", "(II)I"⟩
def dkwX7_lotSeasons_6 : List UInt8 := [184, 0, 79, 172]
abbrev dktX7_lotSeasons_6 : List UInt8 := dkwX7_lotSeasons_6 ++ []
def dkwX7_lotSeasons_5 : List UInt8 := [46, 128, 54, 5, 132, 6, 1, 167, 255, 230, 42, 42, 180, 0, 76, 181, 0, 247, 42, 182, 0, 208, 21, 5]
abbrev dktX7_lotSeasons_5 : List UInt8 := dkwX7_lotSeasons_5 ++ dktX7_lotSeasons_6
def dkwX7_lotSeasons_4 : List UInt8 := [54, 5, 3, 54, 6, 21, 6, 42, 180, 0, 69, 162, 0, 23, 21, 5, 42, 180, 0, 16, 6, 21, 6, 104]
abbrev dktX7_lotSeasons_4 : List UInt8 := dkwX7_lotSeasons_4 ++ dktX7_lotSeasons_5
def dkwX7_lotSeasons_3 : List UInt8 := [182, 0, 183, 87, 21, 5, 6, 112, 5, 160, 0, 8, 42, 182, 0, 189, 87, 132, 5, 1, 167, 255, 179, 3]
abbrev dktX7_lotSeasons_3 : List UInt8 := dkwX7_lotSeasons_3 ++ dktX7_lotSeasons_4
def dkwX7_lotSeasons_2 : List UInt8 := [20, 0, 241, 113, 66, 21, 6, 42, 180, 0, 69, 162, 0, 16, 42, 21, 6, 33, 20, 0, 245, 113, 136]
abbrev dktX7_lotSeasons_2 : List UInt8 := dkwX7_lotSeasons_2 ++ dktX7_lotSeasons_3
def dkwX7_lotSeasons_1 : List UInt8 := [20, 0, 241, 113, 66, 33, 20, 0, 243, 113, 136, 3, 8, 184, 0, 159, 54, 6, 33, 20, 0, 239, 105]
abbrev dktX7_lotSeasons_1 : List UInt8 := dkwX7_lotSeasons_1 ++ dktX7_lotSeasons_2
def dkwX7_lotSeasons_0 : List UInt8 := [27, 133, 10, 97, 66, 42, 182, 0, 201, 3, 54, 5, 21, 5, 28, 162, 0, 77, 33, 20, 0, 239, 105]
abbrev dktX7_lotSeasons_0 : List UInt8 := dkwX7_lotSeasons_0 ++ dktX7_lotSeasons_1
theorem dksX7_lotSeasons_0 : cX7_lotSeasons.data.toList.drop 0 = dktX7_lotSeasons_0 := by decide +kernel
theorem dksX7_lotSeasons_1 : cX7_lotSeasons.data.toList.drop 23 = dktX7_lotSeasons_1 := dk_seg dksX7_lotSeasons_0 23 rfl rfl
theorem dksX7_lotSeasons_2 : cX7_lotSeasons.data.toList.drop 46 = dktX7_lotSeasons_2 := dk_seg dksX7_lotSeasons_1 23 rfl rfl
theorem dksX7_lotSeasons_3 : cX7_lotSeasons.data.toList.drop 69 = dktX7_lotSeasons_3 := dk_seg dksX7_lotSeasons_2 23 rfl rfl
theorem dksX7_lotSeasons_4 : cX7_lotSeasons.data.toList.drop 93 = dktX7_lotSeasons_4 := dk_seg dksX7_lotSeasons_3 24 rfl rfl
theorem dksX7_lotSeasons_5 : cX7_lotSeasons.data.toList.drop 117 = dktX7_lotSeasons_5 := dk_seg dksX7_lotSeasons_4 24 rfl rfl
theorem dksX7_lotSeasons_6 : cX7_lotSeasons.data.toList.drop 141 = dktX7_lotSeasons_6 := dk_seg dksX7_lotSeasons_5 24 rfl rfl
theorem dX7_lotSeasons_0 : decode cX7_lotSeasons 0 = .ok (.iload_n 1, 1) := dk_27 (dk_at dksX7_lotSeasons_0 0 rfl rfl)
theorem dX7_lotSeasons_1 : decode cX7_lotSeasons 1 = .ok (.i2l, 1) := dk_133 (dk_at dksX7_lotSeasons_0 1 rfl rfl)
theorem dX7_lotSeasons_2 : decode cX7_lotSeasons 2 = .ok (.lconst 1, 1) := dk_10 (dk_at dksX7_lotSeasons_0 2 rfl rfl)
theorem dX7_lotSeasons_3 : decode cX7_lotSeasons 3 = .ok (.ladd, 1) := dk_97 (dk_at dksX7_lotSeasons_0 3 rfl rfl)
theorem dX7_lotSeasons_4 : decode cX7_lotSeasons 4 = .ok (.lstore_n 3, 1) := dk_66 (dk_at dksX7_lotSeasons_0 4 rfl rfl)
theorem dX7_lotSeasons_5 : decode cX7_lotSeasons 5 = .ok (.aload_n 0, 1) := dk_42 (dk_at dksX7_lotSeasons_0 5 rfl rfl)
theorem dX7_lotSeasons_6 : decode cX7_lotSeasons 6 = .ok (.invokevirtual 201, 3) := dk_182 0 201 (dk_at dksX7_lotSeasons_0 6 rfl rfl)
theorem dX7_lotSeasons_9 : decode cX7_lotSeasons 9 = .ok (.iconst 0, 1) := dk_3 (dk_at dksX7_lotSeasons_0 9 rfl rfl)
theorem dX7_lotSeasons_10 : decode cX7_lotSeasons 10 = .ok (.istore 5, 2) := dk_54 5 (dk_at dksX7_lotSeasons_0 10 rfl rfl)
theorem dX7_lotSeasons_12 : decode cX7_lotSeasons 12 = .ok (.iload 5, 2) := dk_21 5 (dk_at dksX7_lotSeasons_0 12 rfl rfl)
theorem dX7_lotSeasons_14 : decode cX7_lotSeasons 14 = .ok (.iload_n 2, 1) := dk_28 (dk_at dksX7_lotSeasons_0 14 rfl rfl)
theorem dX7_lotSeasons_15 : decode cX7_lotSeasons 15 = .ok (.if_icmp .ge 77, 3) := dk_162 0 77 (dk_at dksX7_lotSeasons_0 15 rfl rfl)
theorem dX7_lotSeasons_18 : decode cX7_lotSeasons 18 = .ok (.lload_n 3, 1) := dk_33 (dk_at dksX7_lotSeasons_0 18 rfl rfl)
theorem dX7_lotSeasons_19 : decode cX7_lotSeasons 19 = .ok (.ldc2_w 239, 3) := dk_20 0 239 (dk_at dksX7_lotSeasons_0 19 rfl rfl)
theorem dX7_lotSeasons_22 : decode cX7_lotSeasons 22 = .ok (.lmul, 1) := dk_105 (dk_at dksX7_lotSeasons_0 22 rfl rfl)
theorem dX7_lotSeasons_23 : decode cX7_lotSeasons 23 = .ok (.ldc2_w 241, 3) := dk_20 0 241 (dk_at dksX7_lotSeasons_1 0 rfl rfl)
theorem dX7_lotSeasons_26 : decode cX7_lotSeasons 26 = .ok (.lrem, 1) := dk_113 (dk_at dksX7_lotSeasons_1 3 rfl rfl)
theorem dX7_lotSeasons_27 : decode cX7_lotSeasons 27 = .ok (.lstore_n 3, 1) := dk_66 (dk_at dksX7_lotSeasons_1 4 rfl rfl)
theorem dX7_lotSeasons_28 : decode cX7_lotSeasons 28 = .ok (.lload_n 3, 1) := dk_33 (dk_at dksX7_lotSeasons_1 5 rfl rfl)
theorem dX7_lotSeasons_29 : decode cX7_lotSeasons 29 = .ok (.ldc2_w 243, 3) := dk_20 0 243 (dk_at dksX7_lotSeasons_1 6 rfl rfl)
theorem dX7_lotSeasons_32 : decode cX7_lotSeasons 32 = .ok (.lrem, 1) := dk_113 (dk_at dksX7_lotSeasons_1 9 rfl rfl)
theorem dX7_lotSeasons_33 : decode cX7_lotSeasons 33 = .ok (.l2i, 1) := dk_136 (dk_at dksX7_lotSeasons_1 10 rfl rfl)
theorem dX7_lotSeasons_34 : decode cX7_lotSeasons 34 = .ok (.iconst 0, 1) := dk_3 (dk_at dksX7_lotSeasons_1 11 rfl rfl)
theorem dX7_lotSeasons_35 : decode cX7_lotSeasons 35 = .ok (.iconst 5, 1) := dk_8 (dk_at dksX7_lotSeasons_1 12 rfl rfl)
theorem dX7_lotSeasons_36 : decode cX7_lotSeasons 36 = .ok (.invokestatic 159, 3) := dk_184 0 159 (dk_at dksX7_lotSeasons_1 13 rfl rfl)
theorem dX7_lotSeasons_39 : decode cX7_lotSeasons 39 = .ok (.istore 6, 2) := dk_54 6 (dk_at dksX7_lotSeasons_1 16 rfl rfl)
theorem dX7_lotSeasons_41 : decode cX7_lotSeasons 41 = .ok (.lload_n 3, 1) := dk_33 (dk_at dksX7_lotSeasons_1 18 rfl rfl)
theorem dX7_lotSeasons_42 : decode cX7_lotSeasons 42 = .ok (.ldc2_w 239, 3) := dk_20 0 239 (dk_at dksX7_lotSeasons_1 19 rfl rfl)
theorem dX7_lotSeasons_45 : decode cX7_lotSeasons 45 = .ok (.lmul, 1) := dk_105 (dk_at dksX7_lotSeasons_1 22 rfl rfl)
theorem dX7_lotSeasons_46 : decode cX7_lotSeasons 46 = .ok (.ldc2_w 241, 3) := dk_20 0 241 (dk_at dksX7_lotSeasons_2 0 rfl rfl)
theorem dX7_lotSeasons_49 : decode cX7_lotSeasons 49 = .ok (.lrem, 1) := dk_113 (dk_at dksX7_lotSeasons_2 3 rfl rfl)
theorem dX7_lotSeasons_50 : decode cX7_lotSeasons 50 = .ok (.lstore_n 3, 1) := dk_66 (dk_at dksX7_lotSeasons_2 4 rfl rfl)
theorem dX7_lotSeasons_51 : decode cX7_lotSeasons 51 = .ok (.iload 6, 2) := dk_21 6 (dk_at dksX7_lotSeasons_2 5 rfl rfl)
theorem dX7_lotSeasons_53 : decode cX7_lotSeasons 53 = .ok (.aload_n 0, 1) := dk_42 (dk_at dksX7_lotSeasons_2 7 rfl rfl)
theorem dX7_lotSeasons_54 : decode cX7_lotSeasons 54 = .ok (.getfield 69, 3) := dk_180 0 69 (dk_at dksX7_lotSeasons_2 8 rfl rfl)
theorem dX7_lotSeasons_57 : decode cX7_lotSeasons 57 = .ok (.if_icmp .ge 16, 3) := dk_162 0 16 (dk_at dksX7_lotSeasons_2 11 rfl rfl)
theorem dX7_lotSeasons_60 : decode cX7_lotSeasons 60 = .ok (.aload_n 0, 1) := dk_42 (dk_at dksX7_lotSeasons_2 14 rfl rfl)
theorem dX7_lotSeasons_61 : decode cX7_lotSeasons 61 = .ok (.iload 6, 2) := dk_21 6 (dk_at dksX7_lotSeasons_2 15 rfl rfl)
theorem dX7_lotSeasons_63 : decode cX7_lotSeasons 63 = .ok (.lload_n 3, 1) := dk_33 (dk_at dksX7_lotSeasons_2 17 rfl rfl)
theorem dX7_lotSeasons_64 : decode cX7_lotSeasons 64 = .ok (.ldc2_w 245, 3) := dk_20 0 245 (dk_at dksX7_lotSeasons_2 18 rfl rfl)
theorem dX7_lotSeasons_67 : decode cX7_lotSeasons 67 = .ok (.lrem, 1) := dk_113 (dk_at dksX7_lotSeasons_2 21 rfl rfl)
theorem dX7_lotSeasons_68 : decode cX7_lotSeasons 68 = .ok (.l2i, 1) := dk_136 (dk_at dksX7_lotSeasons_2 22 rfl rfl)
theorem dX7_lotSeasons_69 : decode cX7_lotSeasons 69 = .ok (.invokevirtual 183, 3) := dk_182 0 183 (dk_at dksX7_lotSeasons_3 0 rfl rfl)
theorem dX7_lotSeasons_72 : decode cX7_lotSeasons 72 = .ok (.pop, 1) := dk_87 (dk_at dksX7_lotSeasons_3 3 rfl rfl)
theorem dX7_lotSeasons_73 : decode cX7_lotSeasons 73 = .ok (.iload 5, 2) := dk_21 5 (dk_at dksX7_lotSeasons_3 4 rfl rfl)
theorem dX7_lotSeasons_75 : decode cX7_lotSeasons 75 = .ok (.iconst 3, 1) := dk_6 (dk_at dksX7_lotSeasons_3 6 rfl rfl)
theorem dX7_lotSeasons_76 : decode cX7_lotSeasons 76 = .ok (.irem, 1) := dk_112 (dk_at dksX7_lotSeasons_3 7 rfl rfl)
theorem dX7_lotSeasons_77 : decode cX7_lotSeasons 77 = .ok (.iconst 2, 1) := dk_5 (dk_at dksX7_lotSeasons_3 8 rfl rfl)
theorem dX7_lotSeasons_78 : decode cX7_lotSeasons 78 = .ok (.if_icmp .ne 8, 3) := dk_160 0 8 (dk_at dksX7_lotSeasons_3 9 rfl rfl)
theorem dX7_lotSeasons_81 : decode cX7_lotSeasons 81 = .ok (.aload_n 0, 1) := dk_42 (dk_at dksX7_lotSeasons_3 12 rfl rfl)
theorem dX7_lotSeasons_82 : decode cX7_lotSeasons 82 = .ok (.invokevirtual 189, 3) := dk_182 0 189 (dk_at dksX7_lotSeasons_3 13 rfl rfl)
theorem dX7_lotSeasons_85 : decode cX7_lotSeasons 85 = .ok (.pop, 1) := dk_87 (dk_at dksX7_lotSeasons_3 16 rfl rfl)
theorem dX7_lotSeasons_86 : decode cX7_lotSeasons 86 = .ok (.iinc 5 1, 3) := dk_132 5 1 (dk_at dksX7_lotSeasons_3 17 rfl rfl)
theorem dX7_lotSeasons_89 : decode cX7_lotSeasons 89 = .ok (.goto (-77), 3) := dk_167 255 179 (dk_at dksX7_lotSeasons_3 20 rfl rfl)
theorem dX7_lotSeasons_92 : decode cX7_lotSeasons 92 = .ok (.iconst 0, 1) := dk_3 (dk_at dksX7_lotSeasons_3 23 rfl rfl)
theorem dX7_lotSeasons_93 : decode cX7_lotSeasons 93 = .ok (.istore 5, 2) := dk_54 5 (dk_at dksX7_lotSeasons_4 0 rfl rfl)
theorem dX7_lotSeasons_95 : decode cX7_lotSeasons 95 = .ok (.iconst 0, 1) := dk_3 (dk_at dksX7_lotSeasons_4 2 rfl rfl)
theorem dX7_lotSeasons_96 : decode cX7_lotSeasons 96 = .ok (.istore 6, 2) := dk_54 6 (dk_at dksX7_lotSeasons_4 3 rfl rfl)
theorem dX7_lotSeasons_98 : decode cX7_lotSeasons 98 = .ok (.iload 6, 2) := dk_21 6 (dk_at dksX7_lotSeasons_4 5 rfl rfl)
theorem dX7_lotSeasons_100 : decode cX7_lotSeasons 100 = .ok (.aload_n 0, 1) := dk_42 (dk_at dksX7_lotSeasons_4 7 rfl rfl)
theorem dX7_lotSeasons_101 : decode cX7_lotSeasons 101 = .ok (.getfield 69, 3) := dk_180 0 69 (dk_at dksX7_lotSeasons_4 8 rfl rfl)
theorem dX7_lotSeasons_104 : decode cX7_lotSeasons 104 = .ok (.if_icmp .ge 23, 3) := dk_162 0 23 (dk_at dksX7_lotSeasons_4 11 rfl rfl)
theorem dX7_lotSeasons_107 : decode cX7_lotSeasons 107 = .ok (.iload 5, 2) := dk_21 5 (dk_at dksX7_lotSeasons_4 14 rfl rfl)
theorem dX7_lotSeasons_109 : decode cX7_lotSeasons 109 = .ok (.aload_n 0, 1) := dk_42 (dk_at dksX7_lotSeasons_4 16 rfl rfl)
theorem dX7_lotSeasons_110 : decode cX7_lotSeasons 110 = .ok (.getfield 16, 3) := dk_180 0 16 (dk_at dksX7_lotSeasons_4 17 rfl rfl)
theorem dX7_lotSeasons_113 : decode cX7_lotSeasons 113 = .ok (.iconst 3, 1) := dk_6 (dk_at dksX7_lotSeasons_4 20 rfl rfl)
theorem dX7_lotSeasons_114 : decode cX7_lotSeasons 114 = .ok (.iload 6, 2) := dk_21 6 (dk_at dksX7_lotSeasons_4 21 rfl rfl)
theorem dX7_lotSeasons_116 : decode cX7_lotSeasons 116 = .ok (.imul, 1) := dk_104 (dk_at dksX7_lotSeasons_4 23 rfl rfl)
theorem dX7_lotSeasons_117 : decode cX7_lotSeasons 117 = .ok (.iaload, 1) := dk_46 (dk_at dksX7_lotSeasons_5 0 rfl rfl)
theorem dX7_lotSeasons_118 : decode cX7_lotSeasons 118 = .ok (.ior, 1) := dk_128 (dk_at dksX7_lotSeasons_5 1 rfl rfl)
theorem dX7_lotSeasons_119 : decode cX7_lotSeasons 119 = .ok (.istore 5, 2) := dk_54 5 (dk_at dksX7_lotSeasons_5 2 rfl rfl)
theorem dX7_lotSeasons_121 : decode cX7_lotSeasons 121 = .ok (.iinc 6 1, 3) := dk_132 6 1 (dk_at dksX7_lotSeasons_5 4 rfl rfl)
theorem dX7_lotSeasons_124 : decode cX7_lotSeasons 124 = .ok (.goto (-26), 3) := dk_167 255 230 (dk_at dksX7_lotSeasons_5 7 rfl rfl)
theorem dX7_lotSeasons_127 : decode cX7_lotSeasons 127 = .ok (.aload_n 0, 1) := dk_42 (dk_at dksX7_lotSeasons_5 10 rfl rfl)
theorem dX7_lotSeasons_128 : decode cX7_lotSeasons 128 = .ok (.aload_n 0, 1) := dk_42 (dk_at dksX7_lotSeasons_5 11 rfl rfl)
theorem dX7_lotSeasons_129 : decode cX7_lotSeasons 129 = .ok (.getfield 76, 3) := dk_180 0 76 (dk_at dksX7_lotSeasons_5 12 rfl rfl)
theorem dX7_lotSeasons_132 : decode cX7_lotSeasons 132 = .ok (.putfield 247, 3) := dk_181 0 247 (dk_at dksX7_lotSeasons_5 15 rfl rfl)
theorem dX7_lotSeasons_135 : decode cX7_lotSeasons 135 = .ok (.aload_n 0, 1) := dk_42 (dk_at dksX7_lotSeasons_5 18 rfl rfl)
theorem dX7_lotSeasons_136 : decode cX7_lotSeasons 136 = .ok (.invokevirtual 208, 3) := dk_182 0 208 (dk_at dksX7_lotSeasons_5 19 rfl rfl)
theorem dX7_lotSeasons_139 : decode cX7_lotSeasons 139 = .ok (.iload 5, 2) := dk_21 5 (dk_at dksX7_lotSeasons_5 22 rfl rfl)
theorem dX7_lotSeasons_141 : decode cX7_lotSeasons 141 = .ok (.invokestatic 79, 3) := dk_184 0 79 (dk_at dksX7_lotSeasons_6 0 rfl rfl)
theorem dX7_lotSeasons_144 : decode cX7_lotSeasons 144 = .ok (.ireturn, 1) := dk_172 (dk_at dksX7_lotSeasons_6 3 rfl rfl)
abbrev cX7_odds : ByteArray := prog_19_method_71_code
def yX7_odds : MethodName := ⟨RX7, "odds", "(IIII)J"⟩
def dkwX7_odds_3 : List UInt8 := [10, 167, 0, 4, 9, 97, 55, 5, 132, 7, 1, 167, 255, 223, 22, 5, 28, 133, 21, 4, 184, 0, 226, 173]
abbrev dktX7_odds_3 : List UInt8 := dkwX7_odds_3 ++ []
def dkwX7_odds_2 : List UInt8 := [54, 7, 21, 7, 28, 162, 0, 33, 22, 5, 42, 27, 21, 7, 96, 16, 20, 182, 0, 251, 29, 161, 0, 7]
abbrev dktX7_odds_2 : List UInt8 := dkwX7_odds_2 ++ dktX7_odds_3
def dkwX7_odds_1 : List UInt8 := [184, 0, 72, 153, 0, 13, 21, 4, 3, 4, 184, 0, 72, 154, 0, 7, 20, 0, 224, 173, 9, 55, 5, 3]
abbrev dktX7_odds_1 : List UInt8 := dkwX7_odds_1 ++ dktX7_odds_2
def dkwX7_odds_0 : List UInt8 := [27, 3, 18, 250, 184, 0, 72, 153, 0, 33, 28, 4, 16, 40, 184, 0, 72, 153, 0, 23, 29, 3, 16, 16]
abbrev dktX7_odds_0 : List UInt8 := dkwX7_odds_0 ++ dktX7_odds_1
theorem dksX7_odds_0 : cX7_odds.data.toList.drop 0 = dktX7_odds_0 := by decide +kernel
theorem dksX7_odds_1 : cX7_odds.data.toList.drop 24 = dktX7_odds_1 := dk_seg dksX7_odds_0 24 rfl rfl
theorem dksX7_odds_2 : cX7_odds.data.toList.drop 48 = dktX7_odds_2 := dk_seg dksX7_odds_1 24 rfl rfl
theorem dksX7_odds_3 : cX7_odds.data.toList.drop 72 = dktX7_odds_3 := dk_seg dksX7_odds_2 24 rfl rfl
theorem dX7_odds_0 : decode cX7_odds 0 = .ok (.iload_n 1, 1) := dk_27 (dk_at dksX7_odds_0 0 rfl rfl)
theorem dX7_odds_1 : decode cX7_odds 1 = .ok (.iconst 0, 1) := dk_3 (dk_at dksX7_odds_0 1 rfl rfl)
theorem dX7_odds_2 : decode cX7_odds 2 = .ok (.ldc 250, 2) := dk_18 250 (dk_at dksX7_odds_0 2 rfl rfl)
theorem dX7_odds_4 : decode cX7_odds 4 = .ok (.invokestatic 72, 3) := dk_184 0 72 (dk_at dksX7_odds_0 4 rfl rfl)
theorem dX7_odds_7 : decode cX7_odds 7 = .ok (.ifCond .eq 33, 3) := dk_153 0 33 (dk_at dksX7_odds_0 7 rfl rfl)
theorem dX7_odds_10 : decode cX7_odds 10 = .ok (.iload_n 2, 1) := dk_28 (dk_at dksX7_odds_0 10 rfl rfl)
theorem dX7_odds_11 : decode cX7_odds 11 = .ok (.iconst 1, 1) := dk_4 (dk_at dksX7_odds_0 11 rfl rfl)
theorem dX7_odds_12 : decode cX7_odds 12 = .ok (.bipush 40, 2) := dk_16 40 (dk_at dksX7_odds_0 12 rfl rfl)
theorem dX7_odds_14 : decode cX7_odds 14 = .ok (.invokestatic 72, 3) := dk_184 0 72 (dk_at dksX7_odds_0 14 rfl rfl)
theorem dX7_odds_17 : decode cX7_odds 17 = .ok (.ifCond .eq 23, 3) := dk_153 0 23 (dk_at dksX7_odds_0 17 rfl rfl)
theorem dX7_odds_20 : decode cX7_odds 20 = .ok (.iload_n 3, 1) := dk_29 (dk_at dksX7_odds_0 20 rfl rfl)
theorem dX7_odds_21 : decode cX7_odds 21 = .ok (.iconst 0, 1) := dk_3 (dk_at dksX7_odds_0 21 rfl rfl)
theorem dX7_odds_22 : decode cX7_odds 22 = .ok (.bipush 16, 2) := dk_16 16 (dk_at dksX7_odds_0 22 rfl rfl)
theorem dX7_odds_24 : decode cX7_odds 24 = .ok (.invokestatic 72, 3) := dk_184 0 72 (dk_at dksX7_odds_1 0 rfl rfl)
theorem dX7_odds_27 : decode cX7_odds 27 = .ok (.ifCond .eq 13, 3) := dk_153 0 13 (dk_at dksX7_odds_1 3 rfl rfl)
theorem dX7_odds_30 : decode cX7_odds 30 = .ok (.iload 4, 2) := dk_21 4 (dk_at dksX7_odds_1 6 rfl rfl)
theorem dX7_odds_32 : decode cX7_odds 32 = .ok (.iconst 0, 1) := dk_3 (dk_at dksX7_odds_1 8 rfl rfl)
theorem dX7_odds_33 : decode cX7_odds 33 = .ok (.iconst 1, 1) := dk_4 (dk_at dksX7_odds_1 9 rfl rfl)
theorem dX7_odds_34 : decode cX7_odds 34 = .ok (.invokestatic 72, 3) := dk_184 0 72 (dk_at dksX7_odds_1 10 rfl rfl)
theorem dX7_odds_37 : decode cX7_odds 37 = .ok (.ifCond .ne 7, 3) := dk_154 0 7 (dk_at dksX7_odds_1 13 rfl rfl)
theorem dX7_odds_40 : decode cX7_odds 40 = .ok (.ldc2_w 224, 3) := dk_20 0 224 (dk_at dksX7_odds_1 16 rfl rfl)
theorem dX7_odds_43 : decode cX7_odds 43 = .ok (.lreturn, 1) := dk_173 (dk_at dksX7_odds_1 19 rfl rfl)
theorem dX7_odds_44 : decode cX7_odds 44 = .ok (.lconst 0, 1) := dk_9 (dk_at dksX7_odds_1 20 rfl rfl)
theorem dX7_odds_45 : decode cX7_odds 45 = .ok (.lstore 5, 2) := dk_55 5 (dk_at dksX7_odds_1 21 rfl rfl)
theorem dX7_odds_47 : decode cX7_odds 47 = .ok (.iconst 0, 1) := dk_3 (dk_at dksX7_odds_1 23 rfl rfl)
theorem dX7_odds_48 : decode cX7_odds 48 = .ok (.istore 7, 2) := dk_54 7 (dk_at dksX7_odds_2 0 rfl rfl)
theorem dX7_odds_50 : decode cX7_odds 50 = .ok (.iload 7, 2) := dk_21 7 (dk_at dksX7_odds_2 2 rfl rfl)
theorem dX7_odds_52 : decode cX7_odds 52 = .ok (.iload_n 2, 1) := dk_28 (dk_at dksX7_odds_2 4 rfl rfl)
theorem dX7_odds_53 : decode cX7_odds 53 = .ok (.if_icmp .ge 33, 3) := dk_162 0 33 (dk_at dksX7_odds_2 5 rfl rfl)
theorem dX7_odds_56 : decode cX7_odds 56 = .ok (.lload 5, 2) := dk_22 5 (dk_at dksX7_odds_2 8 rfl rfl)
theorem dX7_odds_58 : decode cX7_odds 58 = .ok (.aload_n 0, 1) := dk_42 (dk_at dksX7_odds_2 10 rfl rfl)
theorem dX7_odds_59 : decode cX7_odds 59 = .ok (.iload_n 1, 1) := dk_27 (dk_at dksX7_odds_2 11 rfl rfl)
theorem dX7_odds_60 : decode cX7_odds 60 = .ok (.iload 7, 2) := dk_21 7 (dk_at dksX7_odds_2 12 rfl rfl)
theorem dX7_odds_62 : decode cX7_odds 62 = .ok (.iadd, 1) := dk_96 (dk_at dksX7_odds_2 14 rfl rfl)
theorem dX7_odds_63 : decode cX7_odds 63 = .ok (.bipush 20, 2) := dk_16 20 (dk_at dksX7_odds_2 15 rfl rfl)
theorem dX7_odds_65 : decode cX7_odds 65 = .ok (.invokevirtual 251, 3) := dk_182 0 251 (dk_at dksX7_odds_2 17 rfl rfl)
theorem dX7_odds_68 : decode cX7_odds 68 = .ok (.iload_n 3, 1) := dk_29 (dk_at dksX7_odds_2 20 rfl rfl)
theorem dX7_odds_69 : decode cX7_odds 69 = .ok (.if_icmp .lt 7, 3) := dk_161 0 7 (dk_at dksX7_odds_2 21 rfl rfl)
theorem dX7_odds_72 : decode cX7_odds 72 = .ok (.lconst 1, 1) := dk_10 (dk_at dksX7_odds_3 0 rfl rfl)
theorem dX7_odds_73 : decode cX7_odds 73 = .ok (.goto 4, 3) := dk_167 0 4 (dk_at dksX7_odds_3 1 rfl rfl)
theorem dX7_odds_76 : decode cX7_odds 76 = .ok (.lconst 0, 1) := dk_9 (dk_at dksX7_odds_3 4 rfl rfl)
theorem dX7_odds_77 : decode cX7_odds 77 = .ok (.ladd, 1) := dk_97 (dk_at dksX7_odds_3 5 rfl rfl)
theorem dX7_odds_78 : decode cX7_odds 78 = .ok (.lstore 5, 2) := dk_55 5 (dk_at dksX7_odds_3 6 rfl rfl)
theorem dX7_odds_80 : decode cX7_odds 80 = .ok (.iinc 7 1, 3) := dk_132 7 1 (dk_at dksX7_odds_3 8 rfl rfl)
theorem dX7_odds_83 : decode cX7_odds 83 = .ok (.goto (-33), 3) := dk_167 255 223 (dk_at dksX7_odds_3 11 rfl rfl)
theorem dX7_odds_86 : decode cX7_odds 86 = .ok (.lload 5, 2) := dk_22 5 (dk_at dksX7_odds_3 14 rfl rfl)
theorem dX7_odds_88 : decode cX7_odds 88 = .ok (.iload_n 2, 1) := dk_28 (dk_at dksX7_odds_3 16 rfl rfl)
theorem dX7_odds_89 : decode cX7_odds 89 = .ok (.i2l, 1) := dk_133 (dk_at dksX7_odds_3 17 rfl rfl)
theorem dX7_odds_90 : decode cX7_odds 90 = .ok (.iload 4, 2) := dk_21 4 (dk_at dksX7_odds_3 18 rfl rfl)
theorem dX7_odds_92 : decode cX7_odds 92 = .ok (.invokestatic 226, 3) := dk_184 0 226 (dk_at dksX7_odds_3 20 rfl rfl)
theorem dX7_odds_95 : decode cX7_odds 95 = .ok (.lreturn, 1) := dk_173 (dk_at dksX7_odds_3 23 rfl rfl)
abbrev cX7_image : ByteArray := prog_19_method_72_code
def yX7_image : MethodName := ⟨RX7, "image", "()I"⟩
def dkwX7_image_3 : List UInt8 := [42, 180, 0, 69, 172]
abbrev dktX7_image_3 : List UInt8 := dkwX7_image_3 ++ []
def dkwX7_image_2 : List UInt8 := [180, 0, 76, 79, 42, 180, 0, 31, 5, 42, 180, 0, 83, 79, 42, 180, 0, 31, 6, 42, 180, 0, 89, 79]
abbrev dktX7_image_2 : List UInt8 := dkwX7_image_2 ++ dktX7_image_3
def dkwX7_image_1 : List UInt8 := [79, 132, 1, 1, 167, 255, 235, 42, 180, 0, 31, 3, 42, 180, 0, 69, 79, 42, 180, 0, 31, 4, 42]
abbrev dktX7_image_1 : List UInt8 := dkwX7_image_1 ++ dktX7_image_2
def dkwX7_image_0 : List UInt8 := [42, 4, 181, 0, 254, 3, 60, 27, 16, 18, 162, 0, 21, 42, 180, 0, 28, 27, 42, 180, 0, 16, 27, 46]
abbrev dktX7_image_0 : List UInt8 := dkwX7_image_0 ++ dktX7_image_1
theorem dksX7_image_0 : cX7_image.data.toList.drop 0 = dktX7_image_0 := by decide +kernel
theorem dksX7_image_1 : cX7_image.data.toList.drop 24 = dktX7_image_1 := dk_seg dksX7_image_0 24 rfl rfl
theorem dksX7_image_2 : cX7_image.data.toList.drop 47 = dktX7_image_2 := dk_seg dksX7_image_1 23 rfl rfl
theorem dksX7_image_3 : cX7_image.data.toList.drop 71 = dktX7_image_3 := dk_seg dksX7_image_2 24 rfl rfl
theorem dX7_image_0 : decode cX7_image 0 = .ok (.aload_n 0, 1) := dk_42 (dk_at dksX7_image_0 0 rfl rfl)
theorem dX7_image_1 : decode cX7_image 1 = .ok (.iconst 1, 1) := dk_4 (dk_at dksX7_image_0 1 rfl rfl)
theorem dX7_image_2 : decode cX7_image 2 = .ok (.putfield 254, 3) := dk_181 0 254 (dk_at dksX7_image_0 2 rfl rfl)
theorem dX7_image_5 : decode cX7_image 5 = .ok (.iconst 0, 1) := dk_3 (dk_at dksX7_image_0 5 rfl rfl)
theorem dX7_image_6 : decode cX7_image 6 = .ok (.istore_n 1, 1) := dk_60 (dk_at dksX7_image_0 6 rfl rfl)
theorem dX7_image_7 : decode cX7_image 7 = .ok (.iload_n 1, 1) := dk_27 (dk_at dksX7_image_0 7 rfl rfl)
theorem dX7_image_8 : decode cX7_image 8 = .ok (.bipush 18, 2) := dk_16 18 (dk_at dksX7_image_0 8 rfl rfl)
theorem dX7_image_10 : decode cX7_image 10 = .ok (.if_icmp .ge 21, 3) := dk_162 0 21 (dk_at dksX7_image_0 10 rfl rfl)
theorem dX7_image_13 : decode cX7_image 13 = .ok (.aload_n 0, 1) := dk_42 (dk_at dksX7_image_0 13 rfl rfl)
theorem dX7_image_14 : decode cX7_image 14 = .ok (.getfield 28, 3) := dk_180 0 28 (dk_at dksX7_image_0 14 rfl rfl)
theorem dX7_image_17 : decode cX7_image 17 = .ok (.iload_n 1, 1) := dk_27 (dk_at dksX7_image_0 17 rfl rfl)
theorem dX7_image_18 : decode cX7_image 18 = .ok (.aload_n 0, 1) := dk_42 (dk_at dksX7_image_0 18 rfl rfl)
theorem dX7_image_19 : decode cX7_image 19 = .ok (.getfield 16, 3) := dk_180 0 16 (dk_at dksX7_image_0 19 rfl rfl)
theorem dX7_image_22 : decode cX7_image 22 = .ok (.iload_n 1, 1) := dk_27 (dk_at dksX7_image_0 22 rfl rfl)
theorem dX7_image_23 : decode cX7_image 23 = .ok (.iaload, 1) := dk_46 (dk_at dksX7_image_0 23 rfl rfl)
theorem dX7_image_24 : decode cX7_image 24 = .ok (.iastore, 1) := dk_79 (dk_at dksX7_image_1 0 rfl rfl)
theorem dX7_image_25 : decode cX7_image 25 = .ok (.iinc 1 1, 3) := dk_132 1 1 (dk_at dksX7_image_1 1 rfl rfl)
theorem dX7_image_28 : decode cX7_image 28 = .ok (.goto (-21), 3) := dk_167 255 235 (dk_at dksX7_image_1 4 rfl rfl)
theorem dX7_image_31 : decode cX7_image 31 = .ok (.aload_n 0, 1) := dk_42 (dk_at dksX7_image_1 7 rfl rfl)
theorem dX7_image_32 : decode cX7_image 32 = .ok (.getfield 31, 3) := dk_180 0 31 (dk_at dksX7_image_1 8 rfl rfl)
theorem dX7_image_35 : decode cX7_image 35 = .ok (.iconst 0, 1) := dk_3 (dk_at dksX7_image_1 11 rfl rfl)
theorem dX7_image_36 : decode cX7_image 36 = .ok (.aload_n 0, 1) := dk_42 (dk_at dksX7_image_1 12 rfl rfl)
theorem dX7_image_37 : decode cX7_image 37 = .ok (.getfield 69, 3) := dk_180 0 69 (dk_at dksX7_image_1 13 rfl rfl)
theorem dX7_image_40 : decode cX7_image 40 = .ok (.iastore, 1) := dk_79 (dk_at dksX7_image_1 16 rfl rfl)
theorem dX7_image_41 : decode cX7_image 41 = .ok (.aload_n 0, 1) := dk_42 (dk_at dksX7_image_1 17 rfl rfl)
theorem dX7_image_42 : decode cX7_image 42 = .ok (.getfield 31, 3) := dk_180 0 31 (dk_at dksX7_image_1 18 rfl rfl)
theorem dX7_image_45 : decode cX7_image 45 = .ok (.iconst 1, 1) := dk_4 (dk_at dksX7_image_1 21 rfl rfl)
theorem dX7_image_46 : decode cX7_image 46 = .ok (.aload_n 0, 1) := dk_42 (dk_at dksX7_image_1 22 rfl rfl)
theorem dX7_image_47 : decode cX7_image 47 = .ok (.getfield 76, 3) := dk_180 0 76 (dk_at dksX7_image_2 0 rfl rfl)
theorem dX7_image_50 : decode cX7_image 50 = .ok (.iastore, 1) := dk_79 (dk_at dksX7_image_2 3 rfl rfl)
theorem dX7_image_51 : decode cX7_image 51 = .ok (.aload_n 0, 1) := dk_42 (dk_at dksX7_image_2 4 rfl rfl)
theorem dX7_image_52 : decode cX7_image 52 = .ok (.getfield 31, 3) := dk_180 0 31 (dk_at dksX7_image_2 5 rfl rfl)
theorem dX7_image_55 : decode cX7_image 55 = .ok (.iconst 2, 1) := dk_5 (dk_at dksX7_image_2 8 rfl rfl)
theorem dX7_image_56 : decode cX7_image 56 = .ok (.aload_n 0, 1) := dk_42 (dk_at dksX7_image_2 9 rfl rfl)
theorem dX7_image_57 : decode cX7_image 57 = .ok (.getfield 83, 3) := dk_180 0 83 (dk_at dksX7_image_2 10 rfl rfl)
theorem dX7_image_60 : decode cX7_image 60 = .ok (.iastore, 1) := dk_79 (dk_at dksX7_image_2 13 rfl rfl)
theorem dX7_image_61 : decode cX7_image 61 = .ok (.aload_n 0, 1) := dk_42 (dk_at dksX7_image_2 14 rfl rfl)
theorem dX7_image_62 : decode cX7_image 62 = .ok (.getfield 31, 3) := dk_180 0 31 (dk_at dksX7_image_2 15 rfl rfl)
theorem dX7_image_65 : decode cX7_image 65 = .ok (.iconst 3, 1) := dk_6 (dk_at dksX7_image_2 18 rfl rfl)
theorem dX7_image_66 : decode cX7_image 66 = .ok (.aload_n 0, 1) := dk_42 (dk_at dksX7_image_2 19 rfl rfl)
theorem dX7_image_67 : decode cX7_image 67 = .ok (.getfield 89, 3) := dk_180 0 89 (dk_at dksX7_image_2 20 rfl rfl)
theorem dX7_image_70 : decode cX7_image 70 = .ok (.iastore, 1) := dk_79 (dk_at dksX7_image_2 23 rfl rfl)
theorem dX7_image_71 : decode cX7_image 71 = .ok (.aload_n 0, 1) := dk_42 (dk_at dksX7_image_3 0 rfl rfl)
theorem dX7_image_72 : decode cX7_image 72 = .ok (.getfield 69, 3) := dk_180 0 69 (dk_at dksX7_image_3 1 rfl rfl)
theorem dX7_image_75 : decode cX7_image 75 = .ok (.ireturn, 1) := dk_172 (dk_at dksX7_image_3 4 rfl rfl)
abbrev cX7_back : ByteArray := prog_19_method_73_code
def yX7_back : MethodName := ⟨RX7, "back", "()I"⟩
def dkwX7_back_3 : List UInt8 := [46, 181, 0, 89, 42, 180, 0, 69, 172]
abbrev dktX7_back_3 : List UInt8 := dkwX7_back_3 ++ []
def dkwX7_back_2 : List UInt8 := [180, 0, 31, 4, 46, 181, 0, 76, 42, 42, 180, 0, 31, 5, 46, 181, 0, 83, 42, 42, 180, 0, 31, 6]
abbrev dktX7_back_2 : List UInt8 := dkwX7_back_2 ++ dktX7_back_3
def dkwX7_back_1 : List UInt8 := [180, 0, 28, 27, 46, 79, 132, 1, 1, 167, 255, 235, 42, 42, 180, 0, 31, 3, 46, 181, 0, 69, 42, 42]
abbrev dktX7_back_1 : List UInt8 := dkwX7_back_1 ++ dktX7_back_2
def dkwX7_back_0 : List UInt8 := [42, 180, 0, 254, 154, 0, 6, 16, 253, 172, 3, 60, 27, 16, 18, 162, 0, 21, 42, 180, 0, 16, 27, 42]
abbrev dktX7_back_0 : List UInt8 := dkwX7_back_0 ++ dktX7_back_1
theorem dksX7_back_0 : cX7_back.data.toList.drop 0 = dktX7_back_0 := by decide +kernel
theorem dksX7_back_1 : cX7_back.data.toList.drop 24 = dktX7_back_1 := dk_seg dksX7_back_0 24 rfl rfl
theorem dksX7_back_2 : cX7_back.data.toList.drop 48 = dktX7_back_2 := dk_seg dksX7_back_1 24 rfl rfl
theorem dksX7_back_3 : cX7_back.data.toList.drop 72 = dktX7_back_3 := dk_seg dksX7_back_2 24 rfl rfl
theorem dX7_back_0 : decode cX7_back 0 = .ok (.aload_n 0, 1) := dk_42 (dk_at dksX7_back_0 0 rfl rfl)
theorem dX7_back_1 : decode cX7_back 1 = .ok (.getfield 254, 3) := dk_180 0 254 (dk_at dksX7_back_0 1 rfl rfl)
theorem dX7_back_4 : decode cX7_back 4 = .ok (.ifCond .ne 6, 3) := dk_154 0 6 (dk_at dksX7_back_0 4 rfl rfl)
theorem dX7_back_7 : decode cX7_back 7 = .ok (.bipush (-3), 2) := dk_16 253 (dk_at dksX7_back_0 7 rfl rfl)
theorem dX7_back_9 : decode cX7_back 9 = .ok (.ireturn, 1) := dk_172 (dk_at dksX7_back_0 9 rfl rfl)
theorem dX7_back_10 : decode cX7_back 10 = .ok (.iconst 0, 1) := dk_3 (dk_at dksX7_back_0 10 rfl rfl)
theorem dX7_back_11 : decode cX7_back 11 = .ok (.istore_n 1, 1) := dk_60 (dk_at dksX7_back_0 11 rfl rfl)
theorem dX7_back_12 : decode cX7_back 12 = .ok (.iload_n 1, 1) := dk_27 (dk_at dksX7_back_0 12 rfl rfl)
theorem dX7_back_13 : decode cX7_back 13 = .ok (.bipush 18, 2) := dk_16 18 (dk_at dksX7_back_0 13 rfl rfl)
theorem dX7_back_15 : decode cX7_back 15 = .ok (.if_icmp .ge 21, 3) := dk_162 0 21 (dk_at dksX7_back_0 15 rfl rfl)
theorem dX7_back_18 : decode cX7_back 18 = .ok (.aload_n 0, 1) := dk_42 (dk_at dksX7_back_0 18 rfl rfl)
theorem dX7_back_19 : decode cX7_back 19 = .ok (.getfield 16, 3) := dk_180 0 16 (dk_at dksX7_back_0 19 rfl rfl)
theorem dX7_back_22 : decode cX7_back 22 = .ok (.iload_n 1, 1) := dk_27 (dk_at dksX7_back_0 22 rfl rfl)
theorem dX7_back_23 : decode cX7_back 23 = .ok (.aload_n 0, 1) := dk_42 (dk_at dksX7_back_0 23 rfl rfl)
theorem dX7_back_24 : decode cX7_back 24 = .ok (.getfield 28, 3) := dk_180 0 28 (dk_at dksX7_back_1 0 rfl rfl)
theorem dX7_back_27 : decode cX7_back 27 = .ok (.iload_n 1, 1) := dk_27 (dk_at dksX7_back_1 3 rfl rfl)
theorem dX7_back_28 : decode cX7_back 28 = .ok (.iaload, 1) := dk_46 (dk_at dksX7_back_1 4 rfl rfl)
theorem dX7_back_29 : decode cX7_back 29 = .ok (.iastore, 1) := dk_79 (dk_at dksX7_back_1 5 rfl rfl)
theorem dX7_back_30 : decode cX7_back 30 = .ok (.iinc 1 1, 3) := dk_132 1 1 (dk_at dksX7_back_1 6 rfl rfl)
theorem dX7_back_33 : decode cX7_back 33 = .ok (.goto (-21), 3) := dk_167 255 235 (dk_at dksX7_back_1 9 rfl rfl)
theorem dX7_back_36 : decode cX7_back 36 = .ok (.aload_n 0, 1) := dk_42 (dk_at dksX7_back_1 12 rfl rfl)
theorem dX7_back_37 : decode cX7_back 37 = .ok (.aload_n 0, 1) := dk_42 (dk_at dksX7_back_1 13 rfl rfl)
theorem dX7_back_38 : decode cX7_back 38 = .ok (.getfield 31, 3) := dk_180 0 31 (dk_at dksX7_back_1 14 rfl rfl)
theorem dX7_back_41 : decode cX7_back 41 = .ok (.iconst 0, 1) := dk_3 (dk_at dksX7_back_1 17 rfl rfl)
theorem dX7_back_42 : decode cX7_back 42 = .ok (.iaload, 1) := dk_46 (dk_at dksX7_back_1 18 rfl rfl)
theorem dX7_back_43 : decode cX7_back 43 = .ok (.putfield 69, 3) := dk_181 0 69 (dk_at dksX7_back_1 19 rfl rfl)
theorem dX7_back_46 : decode cX7_back 46 = .ok (.aload_n 0, 1) := dk_42 (dk_at dksX7_back_1 22 rfl rfl)
theorem dX7_back_47 : decode cX7_back 47 = .ok (.aload_n 0, 1) := dk_42 (dk_at dksX7_back_1 23 rfl rfl)
theorem dX7_back_48 : decode cX7_back 48 = .ok (.getfield 31, 3) := dk_180 0 31 (dk_at dksX7_back_2 0 rfl rfl)
theorem dX7_back_51 : decode cX7_back 51 = .ok (.iconst 1, 1) := dk_4 (dk_at dksX7_back_2 3 rfl rfl)
theorem dX7_back_52 : decode cX7_back 52 = .ok (.iaload, 1) := dk_46 (dk_at dksX7_back_2 4 rfl rfl)
theorem dX7_back_53 : decode cX7_back 53 = .ok (.putfield 76, 3) := dk_181 0 76 (dk_at dksX7_back_2 5 rfl rfl)
theorem dX7_back_56 : decode cX7_back 56 = .ok (.aload_n 0, 1) := dk_42 (dk_at dksX7_back_2 8 rfl rfl)
theorem dX7_back_57 : decode cX7_back 57 = .ok (.aload_n 0, 1) := dk_42 (dk_at dksX7_back_2 9 rfl rfl)
theorem dX7_back_58 : decode cX7_back 58 = .ok (.getfield 31, 3) := dk_180 0 31 (dk_at dksX7_back_2 10 rfl rfl)
theorem dX7_back_61 : decode cX7_back 61 = .ok (.iconst 2, 1) := dk_5 (dk_at dksX7_back_2 13 rfl rfl)
theorem dX7_back_62 : decode cX7_back 62 = .ok (.iaload, 1) := dk_46 (dk_at dksX7_back_2 14 rfl rfl)
theorem dX7_back_63 : decode cX7_back 63 = .ok (.putfield 83, 3) := dk_181 0 83 (dk_at dksX7_back_2 15 rfl rfl)
theorem dX7_back_66 : decode cX7_back 66 = .ok (.aload_n 0, 1) := dk_42 (dk_at dksX7_back_2 18 rfl rfl)
theorem dX7_back_67 : decode cX7_back 67 = .ok (.aload_n 0, 1) := dk_42 (dk_at dksX7_back_2 19 rfl rfl)
theorem dX7_back_68 : decode cX7_back 68 = .ok (.getfield 31, 3) := dk_180 0 31 (dk_at dksX7_back_2 20 rfl rfl)
theorem dX7_back_71 : decode cX7_back 71 = .ok (.iconst 3, 1) := dk_6 (dk_at dksX7_back_2 23 rfl rfl)
theorem dX7_back_72 : decode cX7_back 72 = .ok (.iaload, 1) := dk_46 (dk_at dksX7_back_3 0 rfl rfl)
theorem dX7_back_73 : decode cX7_back 73 = .ok (.putfield 89, 3) := dk_181 0 89 (dk_at dksX7_back_3 1 rfl rfl)
theorem dX7_back_76 : decode cX7_back 76 = .ok (.aload_n 0, 1) := dk_42 (dk_at dksX7_back_3 4 rfl rfl)
theorem dX7_back_77 : decode cX7_back 77 = .ok (.getfield 69, 3) := dk_180 0 69 (dk_at dksX7_back_3 5 rfl rfl)
theorem dX7_back_80 : decode cX7_back 80 = .ok (.ireturn, 1) := dk_172 (dk_at dksX7_back_3 8 rfl rfl)
abbrev cX7_sheet : ByteArray := prog_19_method_74_code
def yX7_sheet : MethodName := ⟨RX7, "sheet", "(III)I"⟩
def dkwX7_sheet_4 : List UInt8 := [4, 172]
abbrev dktX7_sheet_4 : List UInt8 := dkwX7_sheet_4 ++ []
def dkwX7_sheet_3 : List UInt8 := [16, 40, 162, 0, 22, 42, 180, 0, 40, 16, 40, 27, 104, 21, 4, 96, 3, 79, 132, 4, 1, 167, 255, 233]
abbrev dktX7_sheet_3 : List UInt8 := dkwX7_sheet_3 ++ dktX7_sheet_4
def dkwX7_sheet_2 : List UInt8 := [27, 28, 79, 42, 180, 0, 37, 27, 28, 2, 160, 0, 7, 3, 167, 0, 4, 29, 79, 3, 54, 4, 21, 4]
abbrev dktX7_sheet_2 : List UInt8 := dkwX7_sheet_2 ++ dktX7_sheet_3
def dkwX7_sheet_1 : List UInt8 := [16, 40, 164, 0, 6, 16, 254, 172, 28, 2, 159, 0, 10, 29, 156, 0, 6, 16, 242, 172, 42, 180, 0, 34]
abbrev dktX7_sheet_1 : List UInt8 := dkwX7_sheet_1 ++ dktX7_sheet_2
def dkwX7_sheet_0 : List UInt8 := [27, 3, 6, 184, 0, 72, 153, 0, 23, 28, 2, 5, 184, 0, 72, 153, 0, 14, 28, 2, 159, 0, 12, 29]
abbrev dktX7_sheet_0 : List UInt8 := dkwX7_sheet_0 ++ dktX7_sheet_1
theorem dksX7_sheet_0 : cX7_sheet.data.toList.drop 0 = dktX7_sheet_0 := by decide +kernel
theorem dksX7_sheet_1 : cX7_sheet.data.toList.drop 24 = dktX7_sheet_1 := dk_seg dksX7_sheet_0 24 rfl rfl
theorem dksX7_sheet_2 : cX7_sheet.data.toList.drop 48 = dktX7_sheet_2 := dk_seg dksX7_sheet_1 24 rfl rfl
theorem dksX7_sheet_3 : cX7_sheet.data.toList.drop 72 = dktX7_sheet_3 := dk_seg dksX7_sheet_2 24 rfl rfl
theorem dksX7_sheet_4 : cX7_sheet.data.toList.drop 96 = dktX7_sheet_4 := dk_seg dksX7_sheet_3 24 rfl rfl
theorem dX7_sheet_0 : decode cX7_sheet 0 = .ok (.iload_n 1, 1) := dk_27 (dk_at dksX7_sheet_0 0 rfl rfl)
theorem dX7_sheet_1 : decode cX7_sheet 1 = .ok (.iconst 0, 1) := dk_3 (dk_at dksX7_sheet_0 1 rfl rfl)
theorem dX7_sheet_2 : decode cX7_sheet 2 = .ok (.iconst 3, 1) := dk_6 (dk_at dksX7_sheet_0 2 rfl rfl)
theorem dX7_sheet_3 : decode cX7_sheet 3 = .ok (.invokestatic 72, 3) := dk_184 0 72 (dk_at dksX7_sheet_0 3 rfl rfl)
theorem dX7_sheet_6 : decode cX7_sheet 6 = .ok (.ifCond .eq 23, 3) := dk_153 0 23 (dk_at dksX7_sheet_0 6 rfl rfl)
theorem dX7_sheet_9 : decode cX7_sheet 9 = .ok (.iload_n 2, 1) := dk_28 (dk_at dksX7_sheet_0 9 rfl rfl)
theorem dX7_sheet_10 : decode cX7_sheet 10 = .ok (.iconst (-1), 1) := dk_2 (dk_at dksX7_sheet_0 10 rfl rfl)
theorem dX7_sheet_11 : decode cX7_sheet 11 = .ok (.iconst 2, 1) := dk_5 (dk_at dksX7_sheet_0 11 rfl rfl)
theorem dX7_sheet_12 : decode cX7_sheet 12 = .ok (.invokestatic 72, 3) := dk_184 0 72 (dk_at dksX7_sheet_0 12 rfl rfl)
theorem dX7_sheet_15 : decode cX7_sheet 15 = .ok (.ifCond .eq 14, 3) := dk_153 0 14 (dk_at dksX7_sheet_0 15 rfl rfl)
theorem dX7_sheet_18 : decode cX7_sheet 18 = .ok (.iload_n 2, 1) := dk_28 (dk_at dksX7_sheet_0 18 rfl rfl)
theorem dX7_sheet_19 : decode cX7_sheet 19 = .ok (.iconst (-1), 1) := dk_2 (dk_at dksX7_sheet_0 19 rfl rfl)
theorem dX7_sheet_20 : decode cX7_sheet 20 = .ok (.if_icmp .eq 12, 3) := dk_159 0 12 (dk_at dksX7_sheet_0 20 rfl rfl)
theorem dX7_sheet_23 : decode cX7_sheet 23 = .ok (.iload_n 3, 1) := dk_29 (dk_at dksX7_sheet_0 23 rfl rfl)
theorem dX7_sheet_24 : decode cX7_sheet 24 = .ok (.bipush 40, 2) := dk_16 40 (dk_at dksX7_sheet_1 0 rfl rfl)
theorem dX7_sheet_26 : decode cX7_sheet 26 = .ok (.if_icmp .le 6, 3) := dk_164 0 6 (dk_at dksX7_sheet_1 2 rfl rfl)
theorem dX7_sheet_29 : decode cX7_sheet 29 = .ok (.bipush (-2), 2) := dk_16 254 (dk_at dksX7_sheet_1 5 rfl rfl)
theorem dX7_sheet_31 : decode cX7_sheet 31 = .ok (.ireturn, 1) := dk_172 (dk_at dksX7_sheet_1 7 rfl rfl)
theorem dX7_sheet_32 : decode cX7_sheet 32 = .ok (.iload_n 2, 1) := dk_28 (dk_at dksX7_sheet_1 8 rfl rfl)
theorem dX7_sheet_33 : decode cX7_sheet 33 = .ok (.iconst (-1), 1) := dk_2 (dk_at dksX7_sheet_1 9 rfl rfl)
theorem dX7_sheet_34 : decode cX7_sheet 34 = .ok (.if_icmp .eq 10, 3) := dk_159 0 10 (dk_at dksX7_sheet_1 10 rfl rfl)
theorem dX7_sheet_37 : decode cX7_sheet 37 = .ok (.iload_n 3, 1) := dk_29 (dk_at dksX7_sheet_1 13 rfl rfl)
theorem dX7_sheet_38 : decode cX7_sheet 38 = .ok (.ifCond .ge 6, 3) := dk_156 0 6 (dk_at dksX7_sheet_1 14 rfl rfl)
theorem dX7_sheet_41 : decode cX7_sheet 41 = .ok (.bipush (-14), 2) := dk_16 242 (dk_at dksX7_sheet_1 17 rfl rfl)
theorem dX7_sheet_43 : decode cX7_sheet 43 = .ok (.ireturn, 1) := dk_172 (dk_at dksX7_sheet_1 19 rfl rfl)
theorem dX7_sheet_44 : decode cX7_sheet 44 = .ok (.aload_n 0, 1) := dk_42 (dk_at dksX7_sheet_1 20 rfl rfl)
theorem dX7_sheet_45 : decode cX7_sheet 45 = .ok (.getfield 34, 3) := dk_180 0 34 (dk_at dksX7_sheet_1 21 rfl rfl)
theorem dX7_sheet_48 : decode cX7_sheet 48 = .ok (.iload_n 1, 1) := dk_27 (dk_at dksX7_sheet_2 0 rfl rfl)
theorem dX7_sheet_49 : decode cX7_sheet 49 = .ok (.iload_n 2, 1) := dk_28 (dk_at dksX7_sheet_2 1 rfl rfl)
theorem dX7_sheet_50 : decode cX7_sheet 50 = .ok (.iastore, 1) := dk_79 (dk_at dksX7_sheet_2 2 rfl rfl)
theorem dX7_sheet_51 : decode cX7_sheet 51 = .ok (.aload_n 0, 1) := dk_42 (dk_at dksX7_sheet_2 3 rfl rfl)
theorem dX7_sheet_52 : decode cX7_sheet 52 = .ok (.getfield 37, 3) := dk_180 0 37 (dk_at dksX7_sheet_2 4 rfl rfl)
theorem dX7_sheet_55 : decode cX7_sheet 55 = .ok (.iload_n 1, 1) := dk_27 (dk_at dksX7_sheet_2 7 rfl rfl)
theorem dX7_sheet_56 : decode cX7_sheet 56 = .ok (.iload_n 2, 1) := dk_28 (dk_at dksX7_sheet_2 8 rfl rfl)
theorem dX7_sheet_57 : decode cX7_sheet 57 = .ok (.iconst (-1), 1) := dk_2 (dk_at dksX7_sheet_2 9 rfl rfl)
theorem dX7_sheet_58 : decode cX7_sheet 58 = .ok (.if_icmp .ne 7, 3) := dk_160 0 7 (dk_at dksX7_sheet_2 10 rfl rfl)
theorem dX7_sheet_61 : decode cX7_sheet 61 = .ok (.iconst 0, 1) := dk_3 (dk_at dksX7_sheet_2 13 rfl rfl)
theorem dX7_sheet_62 : decode cX7_sheet 62 = .ok (.goto 4, 3) := dk_167 0 4 (dk_at dksX7_sheet_2 14 rfl rfl)
theorem dX7_sheet_65 : decode cX7_sheet 65 = .ok (.iload_n 3, 1) := dk_29 (dk_at dksX7_sheet_2 17 rfl rfl)
theorem dX7_sheet_66 : decode cX7_sheet 66 = .ok (.iastore, 1) := dk_79 (dk_at dksX7_sheet_2 18 rfl rfl)
theorem dX7_sheet_67 : decode cX7_sheet 67 = .ok (.iconst 0, 1) := dk_3 (dk_at dksX7_sheet_2 19 rfl rfl)
theorem dX7_sheet_68 : decode cX7_sheet 68 = .ok (.istore 4, 2) := dk_54 4 (dk_at dksX7_sheet_2 20 rfl rfl)
theorem dX7_sheet_70 : decode cX7_sheet 70 = .ok (.iload 4, 2) := dk_21 4 (dk_at dksX7_sheet_2 22 rfl rfl)
theorem dX7_sheet_72 : decode cX7_sheet 72 = .ok (.bipush 40, 2) := dk_16 40 (dk_at dksX7_sheet_3 0 rfl rfl)
theorem dX7_sheet_74 : decode cX7_sheet 74 = .ok (.if_icmp .ge 22, 3) := dk_162 0 22 (dk_at dksX7_sheet_3 2 rfl rfl)
theorem dX7_sheet_77 : decode cX7_sheet 77 = .ok (.aload_n 0, 1) := dk_42 (dk_at dksX7_sheet_3 5 rfl rfl)
theorem dX7_sheet_78 : decode cX7_sheet 78 = .ok (.getfield 40, 3) := dk_180 0 40 (dk_at dksX7_sheet_3 6 rfl rfl)
theorem dX7_sheet_81 : decode cX7_sheet 81 = .ok (.bipush 40, 2) := dk_16 40 (dk_at dksX7_sheet_3 9 rfl rfl)
theorem dX7_sheet_83 : decode cX7_sheet 83 = .ok (.iload_n 1, 1) := dk_27 (dk_at dksX7_sheet_3 11 rfl rfl)
theorem dX7_sheet_84 : decode cX7_sheet 84 = .ok (.imul, 1) := dk_104 (dk_at dksX7_sheet_3 12 rfl rfl)
theorem dX7_sheet_85 : decode cX7_sheet 85 = .ok (.iload 4, 2) := dk_21 4 (dk_at dksX7_sheet_3 13 rfl rfl)
theorem dX7_sheet_87 : decode cX7_sheet 87 = .ok (.iadd, 1) := dk_96 (dk_at dksX7_sheet_3 15 rfl rfl)
theorem dX7_sheet_88 : decode cX7_sheet 88 = .ok (.iconst 0, 1) := dk_3 (dk_at dksX7_sheet_3 16 rfl rfl)
theorem dX7_sheet_89 : decode cX7_sheet 89 = .ok (.iastore, 1) := dk_79 (dk_at dksX7_sheet_3 17 rfl rfl)
theorem dX7_sheet_90 : decode cX7_sheet 90 = .ok (.iinc 4 1, 3) := dk_132 4 1 (dk_at dksX7_sheet_3 18 rfl rfl)
theorem dX7_sheet_93 : decode cX7_sheet 93 = .ok (.goto (-23), 3) := dk_167 255 233 (dk_at dksX7_sheet_3 21 rfl rfl)
theorem dX7_sheet_96 : decode cX7_sheet 96 = .ok (.iconst 1, 1) := dk_4 (dk_at dksX7_sheet_4 0 rfl rfl)
theorem dX7_sheet_97 : decode cX7_sheet 97 = .ok (.ireturn, 1) := dk_172 (dk_at dksX7_sheet_4 1 rfl rfl)
abbrev cX7_cell : ByteArray := prog_19_method_75_code
def yX7_cell : MethodName := ⟨RX7, "cell", "(III)I"⟩
def dkwX7_cell_3 : List UInt8 := [27, 46, 4, 160, 0, 8, 29, 147, 167, 0, 4, 29, 79, 4, 172]
abbrev dktX7_cell_3 : List UInt8 := dkwX7_cell_3 ++ []
def dkwX7_cell_2 : List UInt8 := [16, 40, 27, 104, 28, 96, 42, 180, 0, 34, 27, 46, 154, 0, 8, 29, 145, 167, 0, 19, 42, 180, 0, 34]
abbrev dktX7_cell_2 : List UInt8 := dkwX7_cell_2 ++ dktX7_cell_3
def dkwX7_cell_1 : List UInt8 := [172, 28, 3, 42, 180, 0, 37, 27, 46, 4, 100, 184, 0, 72, 154, 0, 6, 16, 244, 172, 42, 180, 0, 40]
abbrev dktX7_cell_1 : List UInt8 := dkwX7_cell_1 ++ dktX7_cell_2
def dkwX7_cell_0 : List UInt8 := [27, 3, 6, 184, 0, 72, 154, 0, 6, 16, 254, 172, 42, 180, 0, 34, 27, 46, 2, 160, 0, 6, 16, 245]
abbrev dktX7_cell_0 : List UInt8 := dkwX7_cell_0 ++ dktX7_cell_1
theorem dksX7_cell_0 : cX7_cell.data.toList.drop 0 = dktX7_cell_0 := by decide +kernel
theorem dksX7_cell_1 : cX7_cell.data.toList.drop 24 = dktX7_cell_1 := dk_seg dksX7_cell_0 24 rfl rfl
theorem dksX7_cell_2 : cX7_cell.data.toList.drop 48 = dktX7_cell_2 := dk_seg dksX7_cell_1 24 rfl rfl
theorem dksX7_cell_3 : cX7_cell.data.toList.drop 72 = dktX7_cell_3 := dk_seg dksX7_cell_2 24 rfl rfl
theorem dX7_cell_0 : decode cX7_cell 0 = .ok (.iload_n 1, 1) := dk_27 (dk_at dksX7_cell_0 0 rfl rfl)
theorem dX7_cell_1 : decode cX7_cell 1 = .ok (.iconst 0, 1) := dk_3 (dk_at dksX7_cell_0 1 rfl rfl)
theorem dX7_cell_2 : decode cX7_cell 2 = .ok (.iconst 3, 1) := dk_6 (dk_at dksX7_cell_0 2 rfl rfl)
theorem dX7_cell_3 : decode cX7_cell 3 = .ok (.invokestatic 72, 3) := dk_184 0 72 (dk_at dksX7_cell_0 3 rfl rfl)
theorem dX7_cell_6 : decode cX7_cell 6 = .ok (.ifCond .ne 6, 3) := dk_154 0 6 (dk_at dksX7_cell_0 6 rfl rfl)
theorem dX7_cell_9 : decode cX7_cell 9 = .ok (.bipush (-2), 2) := dk_16 254 (dk_at dksX7_cell_0 9 rfl rfl)
theorem dX7_cell_11 : decode cX7_cell 11 = .ok (.ireturn, 1) := dk_172 (dk_at dksX7_cell_0 11 rfl rfl)
theorem dX7_cell_12 : decode cX7_cell 12 = .ok (.aload_n 0, 1) := dk_42 (dk_at dksX7_cell_0 12 rfl rfl)
theorem dX7_cell_13 : decode cX7_cell 13 = .ok (.getfield 34, 3) := dk_180 0 34 (dk_at dksX7_cell_0 13 rfl rfl)
theorem dX7_cell_16 : decode cX7_cell 16 = .ok (.iload_n 1, 1) := dk_27 (dk_at dksX7_cell_0 16 rfl rfl)
theorem dX7_cell_17 : decode cX7_cell 17 = .ok (.iaload, 1) := dk_46 (dk_at dksX7_cell_0 17 rfl rfl)
theorem dX7_cell_18 : decode cX7_cell 18 = .ok (.iconst (-1), 1) := dk_2 (dk_at dksX7_cell_0 18 rfl rfl)
theorem dX7_cell_19 : decode cX7_cell 19 = .ok (.if_icmp .ne 6, 3) := dk_160 0 6 (dk_at dksX7_cell_0 19 rfl rfl)
theorem dX7_cell_22 : decode cX7_cell 22 = .ok (.bipush (-11), 2) := dk_16 245 (dk_at dksX7_cell_0 22 rfl rfl)
theorem dX7_cell_24 : decode cX7_cell 24 = .ok (.ireturn, 1) := dk_172 (dk_at dksX7_cell_1 0 rfl rfl)
theorem dX7_cell_25 : decode cX7_cell 25 = .ok (.iload_n 2, 1) := dk_28 (dk_at dksX7_cell_1 1 rfl rfl)
theorem dX7_cell_26 : decode cX7_cell 26 = .ok (.iconst 0, 1) := dk_3 (dk_at dksX7_cell_1 2 rfl rfl)
theorem dX7_cell_27 : decode cX7_cell 27 = .ok (.aload_n 0, 1) := dk_42 (dk_at dksX7_cell_1 3 rfl rfl)
theorem dX7_cell_28 : decode cX7_cell 28 = .ok (.getfield 37, 3) := dk_180 0 37 (dk_at dksX7_cell_1 4 rfl rfl)
theorem dX7_cell_31 : decode cX7_cell 31 = .ok (.iload_n 1, 1) := dk_27 (dk_at dksX7_cell_1 7 rfl rfl)
theorem dX7_cell_32 : decode cX7_cell 32 = .ok (.iaload, 1) := dk_46 (dk_at dksX7_cell_1 8 rfl rfl)
theorem dX7_cell_33 : decode cX7_cell 33 = .ok (.iconst 1, 1) := dk_4 (dk_at dksX7_cell_1 9 rfl rfl)
theorem dX7_cell_34 : decode cX7_cell 34 = .ok (.isub, 1) := dk_100 (dk_at dksX7_cell_1 10 rfl rfl)
theorem dX7_cell_35 : decode cX7_cell 35 = .ok (.invokestatic 72, 3) := dk_184 0 72 (dk_at dksX7_cell_1 11 rfl rfl)
theorem dX7_cell_38 : decode cX7_cell 38 = .ok (.ifCond .ne 6, 3) := dk_154 0 6 (dk_at dksX7_cell_1 14 rfl rfl)
theorem dX7_cell_41 : decode cX7_cell 41 = .ok (.bipush (-12), 2) := dk_16 244 (dk_at dksX7_cell_1 17 rfl rfl)
theorem dX7_cell_43 : decode cX7_cell 43 = .ok (.ireturn, 1) := dk_172 (dk_at dksX7_cell_1 19 rfl rfl)
theorem dX7_cell_44 : decode cX7_cell 44 = .ok (.aload_n 0, 1) := dk_42 (dk_at dksX7_cell_1 20 rfl rfl)
theorem dX7_cell_45 : decode cX7_cell 45 = .ok (.getfield 40, 3) := dk_180 0 40 (dk_at dksX7_cell_1 21 rfl rfl)
theorem dX7_cell_48 : decode cX7_cell 48 = .ok (.bipush 40, 2) := dk_16 40 (dk_at dksX7_cell_2 0 rfl rfl)
theorem dX7_cell_50 : decode cX7_cell 50 = .ok (.iload_n 1, 1) := dk_27 (dk_at dksX7_cell_2 2 rfl rfl)
theorem dX7_cell_51 : decode cX7_cell 51 = .ok (.imul, 1) := dk_104 (dk_at dksX7_cell_2 3 rfl rfl)
theorem dX7_cell_52 : decode cX7_cell 52 = .ok (.iload_n 2, 1) := dk_28 (dk_at dksX7_cell_2 4 rfl rfl)
theorem dX7_cell_53 : decode cX7_cell 53 = .ok (.iadd, 1) := dk_96 (dk_at dksX7_cell_2 5 rfl rfl)
theorem dX7_cell_54 : decode cX7_cell 54 = .ok (.aload_n 0, 1) := dk_42 (dk_at dksX7_cell_2 6 rfl rfl)
theorem dX7_cell_55 : decode cX7_cell 55 = .ok (.getfield 34, 3) := dk_180 0 34 (dk_at dksX7_cell_2 7 rfl rfl)
theorem dX7_cell_58 : decode cX7_cell 58 = .ok (.iload_n 1, 1) := dk_27 (dk_at dksX7_cell_2 10 rfl rfl)
theorem dX7_cell_59 : decode cX7_cell 59 = .ok (.iaload, 1) := dk_46 (dk_at dksX7_cell_2 11 rfl rfl)
theorem dX7_cell_60 : decode cX7_cell 60 = .ok (.ifCond .ne 8, 3) := dk_154 0 8 (dk_at dksX7_cell_2 12 rfl rfl)
theorem dX7_cell_63 : decode cX7_cell 63 = .ok (.iload_n 3, 1) := dk_29 (dk_at dksX7_cell_2 15 rfl rfl)
theorem dX7_cell_64 : decode cX7_cell 64 = .ok (.i2b, 1) := dk_145 (dk_at dksX7_cell_2 16 rfl rfl)
theorem dX7_cell_65 : decode cX7_cell 65 = .ok (.goto 19, 3) := dk_167 0 19 (dk_at dksX7_cell_2 17 rfl rfl)
theorem dX7_cell_68 : decode cX7_cell 68 = .ok (.aload_n 0, 1) := dk_42 (dk_at dksX7_cell_2 20 rfl rfl)
theorem dX7_cell_69 : decode cX7_cell 69 = .ok (.getfield 34, 3) := dk_180 0 34 (dk_at dksX7_cell_2 21 rfl rfl)
theorem dX7_cell_72 : decode cX7_cell 72 = .ok (.iload_n 1, 1) := dk_27 (dk_at dksX7_cell_3 0 rfl rfl)
theorem dX7_cell_73 : decode cX7_cell 73 = .ok (.iaload, 1) := dk_46 (dk_at dksX7_cell_3 1 rfl rfl)
theorem dX7_cell_74 : decode cX7_cell 74 = .ok (.iconst 1, 1) := dk_4 (dk_at dksX7_cell_3 2 rfl rfl)
theorem dX7_cell_75 : decode cX7_cell 75 = .ok (.if_icmp .ne 8, 3) := dk_160 0 8 (dk_at dksX7_cell_3 3 rfl rfl)
theorem dX7_cell_78 : decode cX7_cell 78 = .ok (.iload_n 3, 1) := dk_29 (dk_at dksX7_cell_3 6 rfl rfl)
theorem dX7_cell_79 : decode cX7_cell 79 = .ok (.i2s, 1) := dk_147 (dk_at dksX7_cell_3 7 rfl rfl)
theorem dX7_cell_80 : decode cX7_cell 80 = .ok (.goto 4, 3) := dk_167 0 4 (dk_at dksX7_cell_3 8 rfl rfl)
theorem dX7_cell_83 : decode cX7_cell 83 = .ok (.iload_n 3, 1) := dk_29 (dk_at dksX7_cell_3 11 rfl rfl)
theorem dX7_cell_84 : decode cX7_cell 84 = .ok (.iastore, 1) := dk_79 (dk_at dksX7_cell_3 12 rfl rfl)
theorem dX7_cell_85 : decode cX7_cell 85 = .ok (.iconst 1, 1) := dk_4 (dk_at dksX7_cell_3 13 rfl rfl)
theorem dX7_cell_86 : decode cX7_cell 86 = .ok (.ireturn, 1) := dk_172 (dk_at dksX7_cell_3 14 rfl rfl)
abbrev cX7_copy : ByteArray := prog_19_method_76_code
def yX7_copy : MethodName := ⟨RX7, "copy", "(IIIII)I"⟩
def dkwX7_copy_8 : List UInt8 := [180, 0, 40, 21, 6, 21, 9, 96, 46, 79, 132, 8, 1, 167, 255, 205, 21, 5, 172]
abbrev dktX7_copy_8 : List UInt8 := dkwX7_copy_8 ++ []
def dkwX7_copy_7 : List UInt8 := [4, 100, 21, 8, 100, 167, 0, 5, 21, 8, 54, 9, 42, 180, 0, 40, 21, 7, 21, 9, 96, 42]
abbrev dktX7_copy_7 : List UInt8 := dkwX7_copy_7 ++ dktX7_copy_8
def dkwX7_copy_6 : List UInt8 := [21, 4, 96, 54, 7, 3, 54, 8, 21, 8, 21, 5, 162, 0, 50, 21, 6, 21, 7, 162, 0, 13, 21, 5]
abbrev dktX7_copy_6 : List UInt8 := dkwX7_copy_6 ++ dktX7_copy_7
def dkwX7_copy_5 : List UInt8 := [29, 46, 21, 4, 100, 164, 0, 6, 16, 244, 172, 16, 40, 27, 104, 28, 96, 54, 6, 16, 40, 29, 104]
abbrev dktX7_copy_5 : List UInt8 := dkwX7_copy_5 ++ dktX7_copy_6
def dkwX7_copy_4 : List UInt8 := [29, 46, 163, 0, 30, 21, 5, 42, 180, 0, 37, 27, 46, 28, 100, 163, 0, 17, 21, 5, 42, 180, 0, 37]
abbrev dktX7_copy_4 : List UInt8 := dkwX7_copy_4 ++ dktX7_copy_5
def dkwX7_copy_3 : List UInt8 := [155, 0, 56, 21, 4, 155, 0, 51, 28, 42, 180, 0, 37, 27, 46, 163, 0, 41, 21, 4, 42, 180, 0, 37]
abbrev dktX7_copy_3 : List UInt8 := dkwX7_copy_3 ++ dktX7_copy_4
def dkwX7_copy_2 : List UInt8 := [180, 0, 34, 27, 46, 42, 180, 0, 34, 29, 46, 159, 0, 6, 16, 243, 172, 21, 5, 155, 0, 60, 28]
abbrev dktX7_copy_2 : List UInt8 := dkwX7_copy_2 ++ dktX7_copy_3
def dkwX7_copy_1 : List UInt8 := [180, 0, 34, 27, 46, 2, 159, 0, 13, 42, 180, 0, 34, 29, 46, 2, 160, 0, 6, 16, 245, 172, 42]
abbrev dktX7_copy_1 : List UInt8 := dkwX7_copy_1 ++ dktX7_copy_2
def dkwX7_copy_0 : List UInt8 := [27, 3, 6, 184, 0, 72, 153, 0, 12, 29, 3, 6, 184, 0, 72, 154, 0, 6, 16, 254, 172, 42]
abbrev dktX7_copy_0 : List UInt8 := dkwX7_copy_0 ++ dktX7_copy_1
theorem dksX7_copy_0 : cX7_copy.data.toList.drop 0 = dktX7_copy_0 := by decide +kernel
theorem dksX7_copy_1 : cX7_copy.data.toList.drop 22 = dktX7_copy_1 := dk_seg dksX7_copy_0 22 rfl rfl
theorem dksX7_copy_2 : cX7_copy.data.toList.drop 45 = dktX7_copy_2 := dk_seg dksX7_copy_1 23 rfl rfl
theorem dksX7_copy_3 : cX7_copy.data.toList.drop 68 = dktX7_copy_3 := dk_seg dksX7_copy_2 23 rfl rfl
theorem dksX7_copy_4 : cX7_copy.data.toList.drop 92 = dktX7_copy_4 := dk_seg dksX7_copy_3 24 rfl rfl
theorem dksX7_copy_5 : cX7_copy.data.toList.drop 116 = dktX7_copy_5 := dk_seg dksX7_copy_4 24 rfl rfl
theorem dksX7_copy_6 : cX7_copy.data.toList.drop 139 = dktX7_copy_6 := dk_seg dksX7_copy_5 23 rfl rfl
theorem dksX7_copy_7 : cX7_copy.data.toList.drop 163 = dktX7_copy_7 := dk_seg dksX7_copy_6 24 rfl rfl
theorem dksX7_copy_8 : cX7_copy.data.toList.drop 185 = dktX7_copy_8 := dk_seg dksX7_copy_7 22 rfl rfl
theorem dX7_copy_0 : decode cX7_copy 0 = .ok (.iload_n 1, 1) := dk_27 (dk_at dksX7_copy_0 0 rfl rfl)
theorem dX7_copy_1 : decode cX7_copy 1 = .ok (.iconst 0, 1) := dk_3 (dk_at dksX7_copy_0 1 rfl rfl)
theorem dX7_copy_2 : decode cX7_copy 2 = .ok (.iconst 3, 1) := dk_6 (dk_at dksX7_copy_0 2 rfl rfl)
theorem dX7_copy_3 : decode cX7_copy 3 = .ok (.invokestatic 72, 3) := dk_184 0 72 (dk_at dksX7_copy_0 3 rfl rfl)
theorem dX7_copy_6 : decode cX7_copy 6 = .ok (.ifCond .eq 12, 3) := dk_153 0 12 (dk_at dksX7_copy_0 6 rfl rfl)
theorem dX7_copy_9 : decode cX7_copy 9 = .ok (.iload_n 3, 1) := dk_29 (dk_at dksX7_copy_0 9 rfl rfl)
theorem dX7_copy_10 : decode cX7_copy 10 = .ok (.iconst 0, 1) := dk_3 (dk_at dksX7_copy_0 10 rfl rfl)
theorem dX7_copy_11 : decode cX7_copy 11 = .ok (.iconst 3, 1) := dk_6 (dk_at dksX7_copy_0 11 rfl rfl)
theorem dX7_copy_12 : decode cX7_copy 12 = .ok (.invokestatic 72, 3) := dk_184 0 72 (dk_at dksX7_copy_0 12 rfl rfl)
theorem dX7_copy_15 : decode cX7_copy 15 = .ok (.ifCond .ne 6, 3) := dk_154 0 6 (dk_at dksX7_copy_0 15 rfl rfl)
theorem dX7_copy_18 : decode cX7_copy 18 = .ok (.bipush (-2), 2) := dk_16 254 (dk_at dksX7_copy_0 18 rfl rfl)
theorem dX7_copy_20 : decode cX7_copy 20 = .ok (.ireturn, 1) := dk_172 (dk_at dksX7_copy_0 20 rfl rfl)
theorem dX7_copy_21 : decode cX7_copy 21 = .ok (.aload_n 0, 1) := dk_42 (dk_at dksX7_copy_0 21 rfl rfl)
theorem dX7_copy_22 : decode cX7_copy 22 = .ok (.getfield 34, 3) := dk_180 0 34 (dk_at dksX7_copy_1 0 rfl rfl)
theorem dX7_copy_25 : decode cX7_copy 25 = .ok (.iload_n 1, 1) := dk_27 (dk_at dksX7_copy_1 3 rfl rfl)
theorem dX7_copy_26 : decode cX7_copy 26 = .ok (.iaload, 1) := dk_46 (dk_at dksX7_copy_1 4 rfl rfl)
theorem dX7_copy_27 : decode cX7_copy 27 = .ok (.iconst (-1), 1) := dk_2 (dk_at dksX7_copy_1 5 rfl rfl)
theorem dX7_copy_28 : decode cX7_copy 28 = .ok (.if_icmp .eq 13, 3) := dk_159 0 13 (dk_at dksX7_copy_1 6 rfl rfl)
theorem dX7_copy_31 : decode cX7_copy 31 = .ok (.aload_n 0, 1) := dk_42 (dk_at dksX7_copy_1 9 rfl rfl)
theorem dX7_copy_32 : decode cX7_copy 32 = .ok (.getfield 34, 3) := dk_180 0 34 (dk_at dksX7_copy_1 10 rfl rfl)
theorem dX7_copy_35 : decode cX7_copy 35 = .ok (.iload_n 3, 1) := dk_29 (dk_at dksX7_copy_1 13 rfl rfl)
theorem dX7_copy_36 : decode cX7_copy 36 = .ok (.iaload, 1) := dk_46 (dk_at dksX7_copy_1 14 rfl rfl)
theorem dX7_copy_37 : decode cX7_copy 37 = .ok (.iconst (-1), 1) := dk_2 (dk_at dksX7_copy_1 15 rfl rfl)
theorem dX7_copy_38 : decode cX7_copy 38 = .ok (.if_icmp .ne 6, 3) := dk_160 0 6 (dk_at dksX7_copy_1 16 rfl rfl)
theorem dX7_copy_41 : decode cX7_copy 41 = .ok (.bipush (-11), 2) := dk_16 245 (dk_at dksX7_copy_1 19 rfl rfl)
theorem dX7_copy_43 : decode cX7_copy 43 = .ok (.ireturn, 1) := dk_172 (dk_at dksX7_copy_1 21 rfl rfl)
theorem dX7_copy_44 : decode cX7_copy 44 = .ok (.aload_n 0, 1) := dk_42 (dk_at dksX7_copy_1 22 rfl rfl)
theorem dX7_copy_45 : decode cX7_copy 45 = .ok (.getfield 34, 3) := dk_180 0 34 (dk_at dksX7_copy_2 0 rfl rfl)
theorem dX7_copy_48 : decode cX7_copy 48 = .ok (.iload_n 1, 1) := dk_27 (dk_at dksX7_copy_2 3 rfl rfl)
theorem dX7_copy_49 : decode cX7_copy 49 = .ok (.iaload, 1) := dk_46 (dk_at dksX7_copy_2 4 rfl rfl)
theorem dX7_copy_50 : decode cX7_copy 50 = .ok (.aload_n 0, 1) := dk_42 (dk_at dksX7_copy_2 5 rfl rfl)
theorem dX7_copy_51 : decode cX7_copy 51 = .ok (.getfield 34, 3) := dk_180 0 34 (dk_at dksX7_copy_2 6 rfl rfl)
theorem dX7_copy_54 : decode cX7_copy 54 = .ok (.iload_n 3, 1) := dk_29 (dk_at dksX7_copy_2 9 rfl rfl)
theorem dX7_copy_55 : decode cX7_copy 55 = .ok (.iaload, 1) := dk_46 (dk_at dksX7_copy_2 10 rfl rfl)
theorem dX7_copy_56 : decode cX7_copy 56 = .ok (.if_icmp .eq 6, 3) := dk_159 0 6 (dk_at dksX7_copy_2 11 rfl rfl)
theorem dX7_copy_59 : decode cX7_copy 59 = .ok (.bipush (-13), 2) := dk_16 243 (dk_at dksX7_copy_2 14 rfl rfl)
theorem dX7_copy_61 : decode cX7_copy 61 = .ok (.ireturn, 1) := dk_172 (dk_at dksX7_copy_2 16 rfl rfl)
theorem dX7_copy_62 : decode cX7_copy 62 = .ok (.iload 5, 2) := dk_21 5 (dk_at dksX7_copy_2 17 rfl rfl)
theorem dX7_copy_64 : decode cX7_copy 64 = .ok (.ifCond .lt 60, 3) := dk_155 0 60 (dk_at dksX7_copy_2 19 rfl rfl)
theorem dX7_copy_67 : decode cX7_copy 67 = .ok (.iload_n 2, 1) := dk_28 (dk_at dksX7_copy_2 22 rfl rfl)
theorem dX7_copy_68 : decode cX7_copy 68 = .ok (.ifCond .lt 56, 3) := dk_155 0 56 (dk_at dksX7_copy_3 0 rfl rfl)
theorem dX7_copy_71 : decode cX7_copy 71 = .ok (.iload 4, 2) := dk_21 4 (dk_at dksX7_copy_3 3 rfl rfl)
theorem dX7_copy_73 : decode cX7_copy 73 = .ok (.ifCond .lt 51, 3) := dk_155 0 51 (dk_at dksX7_copy_3 5 rfl rfl)
theorem dX7_copy_76 : decode cX7_copy 76 = .ok (.iload_n 2, 1) := dk_28 (dk_at dksX7_copy_3 8 rfl rfl)
theorem dX7_copy_77 : decode cX7_copy 77 = .ok (.aload_n 0, 1) := dk_42 (dk_at dksX7_copy_3 9 rfl rfl)
theorem dX7_copy_78 : decode cX7_copy 78 = .ok (.getfield 37, 3) := dk_180 0 37 (dk_at dksX7_copy_3 10 rfl rfl)
theorem dX7_copy_81 : decode cX7_copy 81 = .ok (.iload_n 1, 1) := dk_27 (dk_at dksX7_copy_3 13 rfl rfl)
theorem dX7_copy_82 : decode cX7_copy 82 = .ok (.iaload, 1) := dk_46 (dk_at dksX7_copy_3 14 rfl rfl)
theorem dX7_copy_83 : decode cX7_copy 83 = .ok (.if_icmp .gt 41, 3) := dk_163 0 41 (dk_at dksX7_copy_3 15 rfl rfl)
theorem dX7_copy_86 : decode cX7_copy 86 = .ok (.iload 4, 2) := dk_21 4 (dk_at dksX7_copy_3 18 rfl rfl)
theorem dX7_copy_88 : decode cX7_copy 88 = .ok (.aload_n 0, 1) := dk_42 (dk_at dksX7_copy_3 20 rfl rfl)
theorem dX7_copy_89 : decode cX7_copy 89 = .ok (.getfield 37, 3) := dk_180 0 37 (dk_at dksX7_copy_3 21 rfl rfl)
theorem dX7_copy_92 : decode cX7_copy 92 = .ok (.iload_n 3, 1) := dk_29 (dk_at dksX7_copy_4 0 rfl rfl)
theorem dX7_copy_93 : decode cX7_copy 93 = .ok (.iaload, 1) := dk_46 (dk_at dksX7_copy_4 1 rfl rfl)
theorem dX7_copy_94 : decode cX7_copy 94 = .ok (.if_icmp .gt 30, 3) := dk_163 0 30 (dk_at dksX7_copy_4 2 rfl rfl)
theorem dX7_copy_97 : decode cX7_copy 97 = .ok (.iload 5, 2) := dk_21 5 (dk_at dksX7_copy_4 5 rfl rfl)
theorem dX7_copy_99 : decode cX7_copy 99 = .ok (.aload_n 0, 1) := dk_42 (dk_at dksX7_copy_4 7 rfl rfl)
theorem dX7_copy_100 : decode cX7_copy 100 = .ok (.getfield 37, 3) := dk_180 0 37 (dk_at dksX7_copy_4 8 rfl rfl)
theorem dX7_copy_103 : decode cX7_copy 103 = .ok (.iload_n 1, 1) := dk_27 (dk_at dksX7_copy_4 11 rfl rfl)
theorem dX7_copy_104 : decode cX7_copy 104 = .ok (.iaload, 1) := dk_46 (dk_at dksX7_copy_4 12 rfl rfl)
theorem dX7_copy_105 : decode cX7_copy 105 = .ok (.iload_n 2, 1) := dk_28 (dk_at dksX7_copy_4 13 rfl rfl)
theorem dX7_copy_106 : decode cX7_copy 106 = .ok (.isub, 1) := dk_100 (dk_at dksX7_copy_4 14 rfl rfl)
theorem dX7_copy_107 : decode cX7_copy 107 = .ok (.if_icmp .gt 17, 3) := dk_163 0 17 (dk_at dksX7_copy_4 15 rfl rfl)
theorem dX7_copy_110 : decode cX7_copy 110 = .ok (.iload 5, 2) := dk_21 5 (dk_at dksX7_copy_4 18 rfl rfl)
theorem dX7_copy_112 : decode cX7_copy 112 = .ok (.aload_n 0, 1) := dk_42 (dk_at dksX7_copy_4 20 rfl rfl)
theorem dX7_copy_113 : decode cX7_copy 113 = .ok (.getfield 37, 3) := dk_180 0 37 (dk_at dksX7_copy_4 21 rfl rfl)
theorem dX7_copy_116 : decode cX7_copy 116 = .ok (.iload_n 3, 1) := dk_29 (dk_at dksX7_copy_5 0 rfl rfl)
theorem dX7_copy_117 : decode cX7_copy 117 = .ok (.iaload, 1) := dk_46 (dk_at dksX7_copy_5 1 rfl rfl)
theorem dX7_copy_118 : decode cX7_copy 118 = .ok (.iload 4, 2) := dk_21 4 (dk_at dksX7_copy_5 2 rfl rfl)
theorem dX7_copy_120 : decode cX7_copy 120 = .ok (.isub, 1) := dk_100 (dk_at dksX7_copy_5 4 rfl rfl)
theorem dX7_copy_121 : decode cX7_copy 121 = .ok (.if_icmp .le 6, 3) := dk_164 0 6 (dk_at dksX7_copy_5 5 rfl rfl)
theorem dX7_copy_124 : decode cX7_copy 124 = .ok (.bipush (-12), 2) := dk_16 244 (dk_at dksX7_copy_5 8 rfl rfl)
theorem dX7_copy_126 : decode cX7_copy 126 = .ok (.ireturn, 1) := dk_172 (dk_at dksX7_copy_5 10 rfl rfl)
theorem dX7_copy_127 : decode cX7_copy 127 = .ok (.bipush 40, 2) := dk_16 40 (dk_at dksX7_copy_5 11 rfl rfl)
theorem dX7_copy_129 : decode cX7_copy 129 = .ok (.iload_n 1, 1) := dk_27 (dk_at dksX7_copy_5 13 rfl rfl)
theorem dX7_copy_130 : decode cX7_copy 130 = .ok (.imul, 1) := dk_104 (dk_at dksX7_copy_5 14 rfl rfl)
theorem dX7_copy_131 : decode cX7_copy 131 = .ok (.iload_n 2, 1) := dk_28 (dk_at dksX7_copy_5 15 rfl rfl)
theorem dX7_copy_132 : decode cX7_copy 132 = .ok (.iadd, 1) := dk_96 (dk_at dksX7_copy_5 16 rfl rfl)
theorem dX7_copy_133 : decode cX7_copy 133 = .ok (.istore 6, 2) := dk_54 6 (dk_at dksX7_copy_5 17 rfl rfl)
theorem dX7_copy_135 : decode cX7_copy 135 = .ok (.bipush 40, 2) := dk_16 40 (dk_at dksX7_copy_5 19 rfl rfl)
theorem dX7_copy_137 : decode cX7_copy 137 = .ok (.iload_n 3, 1) := dk_29 (dk_at dksX7_copy_5 21 rfl rfl)
theorem dX7_copy_138 : decode cX7_copy 138 = .ok (.imul, 1) := dk_104 (dk_at dksX7_copy_5 22 rfl rfl)
theorem dX7_copy_139 : decode cX7_copy 139 = .ok (.iload 4, 2) := dk_21 4 (dk_at dksX7_copy_6 0 rfl rfl)
theorem dX7_copy_141 : decode cX7_copy 141 = .ok (.iadd, 1) := dk_96 (dk_at dksX7_copy_6 2 rfl rfl)
theorem dX7_copy_142 : decode cX7_copy 142 = .ok (.istore 7, 2) := dk_54 7 (dk_at dksX7_copy_6 3 rfl rfl)
theorem dX7_copy_144 : decode cX7_copy 144 = .ok (.iconst 0, 1) := dk_3 (dk_at dksX7_copy_6 5 rfl rfl)
theorem dX7_copy_145 : decode cX7_copy 145 = .ok (.istore 8, 2) := dk_54 8 (dk_at dksX7_copy_6 6 rfl rfl)
theorem dX7_copy_147 : decode cX7_copy 147 = .ok (.iload 8, 2) := dk_21 8 (dk_at dksX7_copy_6 8 rfl rfl)
theorem dX7_copy_149 : decode cX7_copy 149 = .ok (.iload 5, 2) := dk_21 5 (dk_at dksX7_copy_6 10 rfl rfl)
theorem dX7_copy_151 : decode cX7_copy 151 = .ok (.if_icmp .ge 50, 3) := dk_162 0 50 (dk_at dksX7_copy_6 12 rfl rfl)
theorem dX7_copy_154 : decode cX7_copy 154 = .ok (.iload 6, 2) := dk_21 6 (dk_at dksX7_copy_6 15 rfl rfl)
theorem dX7_copy_156 : decode cX7_copy 156 = .ok (.iload 7, 2) := dk_21 7 (dk_at dksX7_copy_6 17 rfl rfl)
theorem dX7_copy_158 : decode cX7_copy 158 = .ok (.if_icmp .ge 13, 3) := dk_162 0 13 (dk_at dksX7_copy_6 19 rfl rfl)
theorem dX7_copy_161 : decode cX7_copy 161 = .ok (.iload 5, 2) := dk_21 5 (dk_at dksX7_copy_6 22 rfl rfl)
theorem dX7_copy_163 : decode cX7_copy 163 = .ok (.iconst 1, 1) := dk_4 (dk_at dksX7_copy_7 0 rfl rfl)
theorem dX7_copy_164 : decode cX7_copy 164 = .ok (.isub, 1) := dk_100 (dk_at dksX7_copy_7 1 rfl rfl)
theorem dX7_copy_165 : decode cX7_copy 165 = .ok (.iload 8, 2) := dk_21 8 (dk_at dksX7_copy_7 2 rfl rfl)
theorem dX7_copy_167 : decode cX7_copy 167 = .ok (.isub, 1) := dk_100 (dk_at dksX7_copy_7 4 rfl rfl)
theorem dX7_copy_168 : decode cX7_copy 168 = .ok (.goto 5, 3) := dk_167 0 5 (dk_at dksX7_copy_7 5 rfl rfl)
theorem dX7_copy_171 : decode cX7_copy 171 = .ok (.iload 8, 2) := dk_21 8 (dk_at dksX7_copy_7 8 rfl rfl)
theorem dX7_copy_173 : decode cX7_copy 173 = .ok (.istore 9, 2) := dk_54 9 (dk_at dksX7_copy_7 10 rfl rfl)
theorem dX7_copy_175 : decode cX7_copy 175 = .ok (.aload_n 0, 1) := dk_42 (dk_at dksX7_copy_7 12 rfl rfl)
theorem dX7_copy_176 : decode cX7_copy 176 = .ok (.getfield 40, 3) := dk_180 0 40 (dk_at dksX7_copy_7 13 rfl rfl)
theorem dX7_copy_179 : decode cX7_copy 179 = .ok (.iload 7, 2) := dk_21 7 (dk_at dksX7_copy_7 16 rfl rfl)
theorem dX7_copy_181 : decode cX7_copy 181 = .ok (.iload 9, 2) := dk_21 9 (dk_at dksX7_copy_7 18 rfl rfl)
theorem dX7_copy_183 : decode cX7_copy 183 = .ok (.iadd, 1) := dk_96 (dk_at dksX7_copy_7 20 rfl rfl)
theorem dX7_copy_184 : decode cX7_copy 184 = .ok (.aload_n 0, 1) := dk_42 (dk_at dksX7_copy_7 21 rfl rfl)
theorem dX7_copy_185 : decode cX7_copy 185 = .ok (.getfield 40, 3) := dk_180 0 40 (dk_at dksX7_copy_8 0 rfl rfl)
theorem dX7_copy_188 : decode cX7_copy 188 = .ok (.iload 6, 2) := dk_21 6 (dk_at dksX7_copy_8 3 rfl rfl)
theorem dX7_copy_190 : decode cX7_copy 190 = .ok (.iload 9, 2) := dk_21 9 (dk_at dksX7_copy_8 5 rfl rfl)
theorem dX7_copy_192 : decode cX7_copy 192 = .ok (.iadd, 1) := dk_96 (dk_at dksX7_copy_8 7 rfl rfl)
theorem dX7_copy_193 : decode cX7_copy 193 = .ok (.iaload, 1) := dk_46 (dk_at dksX7_copy_8 8 rfl rfl)
theorem dX7_copy_194 : decode cX7_copy 194 = .ok (.iastore, 1) := dk_79 (dk_at dksX7_copy_8 9 rfl rfl)
theorem dX7_copy_195 : decode cX7_copy 195 = .ok (.iinc 8 1, 3) := dk_132 8 1 (dk_at dksX7_copy_8 10 rfl rfl)
theorem dX7_copy_198 : decode cX7_copy 198 = .ok (.goto (-51), 3) := dk_167 255 205 (dk_at dksX7_copy_8 13 rfl rfl)
theorem dX7_copy_201 : decode cX7_copy 201 = .ok (.iload 5, 2) := dk_21 5 (dk_at dksX7_copy_8 16 rfl rfl)
theorem dX7_copy_203 : decode cX7_copy 203 = .ok (.ireturn, 1) := dk_172 (dk_at dksX7_copy_8 18 rfl rfl)
abbrev cX7_fishersBy : ByteArray := prog_19_method_77_code
def yX7_fishersBy : MethodName := ⟨RX7, "fishersBy", "(IIII)I"⟩
def dkwX7_fishersBy_6 : List UInt8 := [167, 0, 4, 3, 96, 54, 5, 132, 6, 1, 167, 255, 170, 21, 5, 172]
abbrev dktX7_fishersBy_6 : List UInt8 := dkwX7_fishersBy_6 ++ []
def dkwX7_fishersBy_5 : List UInt8 := [42, 42, 180, 0, 40, 21, 8, 46, 42, 180, 0, 40, 21, 8, 4, 96, 46, 182, 1, 2, 155, 0, 7, 4]
abbrev dktX7_fishersBy_5 : List UInt8 := dkwX7_fishersBy_5 ++ dktX7_fishersBy_6
def dkwX7_fishersBy_4 : List UInt8 := [180, 0, 37, 27, 46, 5, 100, 164, 0, 6, 16, 244, 172, 16, 40, 27, 104, 21, 7, 96, 54, 8, 21, 5]
abbrev dktX7_fishersBy_4 : List UInt8 := dkwX7_fishersBy_4 ++ dktX7_fishersBy_5
def dkwX7_fishersBy_3 : List UInt8 := [162, 0, 85, 29, 5, 21, 6, 104, 96, 54, 7, 29, 155, 0, 22, 21, 7, 29, 161, 0, 16, 21, 7, 42]
abbrev dktX7_fishersBy_3 : List UInt8 := dkwX7_fishersBy_3 ++ dktX7_fishersBy_4
def dkwX7_fishersBy_2 : List UInt8 := [180, 0, 34, 27, 46, 28, 159, 0, 6, 16, 243, 172, 3, 54, 5, 3, 54, 6, 21, 6, 21, 4]
abbrev dktX7_fishersBy_2 : List UInt8 := dkwX7_fishersBy_2 ++ dktX7_fishersBy_3
def dkwX7_fishersBy_1 : List UInt8 := [184, 0, 72, 154, 0, 6, 16, 254, 172, 42, 180, 0, 34, 27, 46, 2, 160, 0, 6, 16, 245, 172, 42]
abbrev dktX7_fishersBy_1 : List UInt8 := dkwX7_fishersBy_1 ++ dktX7_fishersBy_2
def dkwX7_fishersBy_0 : List UInt8 := [27, 3, 6, 184, 0, 72, 153, 0, 23, 28, 3, 5, 184, 0, 72, 153, 0, 14, 21, 4, 3, 16, 6]
abbrev dktX7_fishersBy_0 : List UInt8 := dkwX7_fishersBy_0 ++ dktX7_fishersBy_1
theorem dksX7_fishersBy_0 : cX7_fishersBy.data.toList.drop 0 = dktX7_fishersBy_0 := by decide +kernel
theorem dksX7_fishersBy_1 : cX7_fishersBy.data.toList.drop 23 = dktX7_fishersBy_1 := dk_seg dksX7_fishersBy_0 23 rfl rfl
theorem dksX7_fishersBy_2 : cX7_fishersBy.data.toList.drop 46 = dktX7_fishersBy_2 := dk_seg dksX7_fishersBy_1 23 rfl rfl
theorem dksX7_fishersBy_3 : cX7_fishersBy.data.toList.drop 68 = dktX7_fishersBy_3 := dk_seg dksX7_fishersBy_2 22 rfl rfl
theorem dksX7_fishersBy_4 : cX7_fishersBy.data.toList.drop 92 = dktX7_fishersBy_4 := dk_seg dksX7_fishersBy_3 24 rfl rfl
theorem dksX7_fishersBy_5 : cX7_fishersBy.data.toList.drop 116 = dktX7_fishersBy_5 := dk_seg dksX7_fishersBy_4 24 rfl rfl
theorem dksX7_fishersBy_6 : cX7_fishersBy.data.toList.drop 140 = dktX7_fishersBy_6 := dk_seg dksX7_fishersBy_5 24 rfl rfl
theorem dX7_fishersBy_0 : decode cX7_fishersBy 0 = .ok (.iload_n 1, 1) := dk_27 (dk_at dksX7_fishersBy_0 0 rfl rfl)
theorem dX7_fishersBy_1 : decode cX7_fishersBy 1 = .ok (.iconst 0, 1) := dk_3 (dk_at dksX7_fishersBy_0 1 rfl rfl)
theorem dX7_fishersBy_2 : decode cX7_fishersBy 2 = .ok (.iconst 3, 1) := dk_6 (dk_at dksX7_fishersBy_0 2 rfl rfl)
theorem dX7_fishersBy_3 : decode cX7_fishersBy 3 = .ok (.invokestatic 72, 3) := dk_184 0 72 (dk_at dksX7_fishersBy_0 3 rfl rfl)
theorem dX7_fishersBy_6 : decode cX7_fishersBy 6 = .ok (.ifCond .eq 23, 3) := dk_153 0 23 (dk_at dksX7_fishersBy_0 6 rfl rfl)
theorem dX7_fishersBy_9 : decode cX7_fishersBy 9 = .ok (.iload_n 2, 1) := dk_28 (dk_at dksX7_fishersBy_0 9 rfl rfl)
theorem dX7_fishersBy_10 : decode cX7_fishersBy 10 = .ok (.iconst 0, 1) := dk_3 (dk_at dksX7_fishersBy_0 10 rfl rfl)
theorem dX7_fishersBy_11 : decode cX7_fishersBy 11 = .ok (.iconst 2, 1) := dk_5 (dk_at dksX7_fishersBy_0 11 rfl rfl)
theorem dX7_fishersBy_12 : decode cX7_fishersBy 12 = .ok (.invokestatic 72, 3) := dk_184 0 72 (dk_at dksX7_fishersBy_0 12 rfl rfl)
theorem dX7_fishersBy_15 : decode cX7_fishersBy 15 = .ok (.ifCond .eq 14, 3) := dk_153 0 14 (dk_at dksX7_fishersBy_0 15 rfl rfl)
theorem dX7_fishersBy_18 : decode cX7_fishersBy 18 = .ok (.iload 4, 2) := dk_21 4 (dk_at dksX7_fishersBy_0 18 rfl rfl)
theorem dX7_fishersBy_20 : decode cX7_fishersBy 20 = .ok (.iconst 0, 1) := dk_3 (dk_at dksX7_fishersBy_0 20 rfl rfl)
theorem dX7_fishersBy_21 : decode cX7_fishersBy 21 = .ok (.bipush 6, 2) := dk_16 6 (dk_at dksX7_fishersBy_0 21 rfl rfl)
theorem dX7_fishersBy_23 : decode cX7_fishersBy 23 = .ok (.invokestatic 72, 3) := dk_184 0 72 (dk_at dksX7_fishersBy_1 0 rfl rfl)
theorem dX7_fishersBy_26 : decode cX7_fishersBy 26 = .ok (.ifCond .ne 6, 3) := dk_154 0 6 (dk_at dksX7_fishersBy_1 3 rfl rfl)
theorem dX7_fishersBy_29 : decode cX7_fishersBy 29 = .ok (.bipush (-2), 2) := dk_16 254 (dk_at dksX7_fishersBy_1 6 rfl rfl)
theorem dX7_fishersBy_31 : decode cX7_fishersBy 31 = .ok (.ireturn, 1) := dk_172 (dk_at dksX7_fishersBy_1 8 rfl rfl)
theorem dX7_fishersBy_32 : decode cX7_fishersBy 32 = .ok (.aload_n 0, 1) := dk_42 (dk_at dksX7_fishersBy_1 9 rfl rfl)
theorem dX7_fishersBy_33 : decode cX7_fishersBy 33 = .ok (.getfield 34, 3) := dk_180 0 34 (dk_at dksX7_fishersBy_1 10 rfl rfl)
theorem dX7_fishersBy_36 : decode cX7_fishersBy 36 = .ok (.iload_n 1, 1) := dk_27 (dk_at dksX7_fishersBy_1 13 rfl rfl)
theorem dX7_fishersBy_37 : decode cX7_fishersBy 37 = .ok (.iaload, 1) := dk_46 (dk_at dksX7_fishersBy_1 14 rfl rfl)
theorem dX7_fishersBy_38 : decode cX7_fishersBy 38 = .ok (.iconst (-1), 1) := dk_2 (dk_at dksX7_fishersBy_1 15 rfl rfl)
theorem dX7_fishersBy_39 : decode cX7_fishersBy 39 = .ok (.if_icmp .ne 6, 3) := dk_160 0 6 (dk_at dksX7_fishersBy_1 16 rfl rfl)
theorem dX7_fishersBy_42 : decode cX7_fishersBy 42 = .ok (.bipush (-11), 2) := dk_16 245 (dk_at dksX7_fishersBy_1 19 rfl rfl)
theorem dX7_fishersBy_44 : decode cX7_fishersBy 44 = .ok (.ireturn, 1) := dk_172 (dk_at dksX7_fishersBy_1 21 rfl rfl)
theorem dX7_fishersBy_45 : decode cX7_fishersBy 45 = .ok (.aload_n 0, 1) := dk_42 (dk_at dksX7_fishersBy_1 22 rfl rfl)
theorem dX7_fishersBy_46 : decode cX7_fishersBy 46 = .ok (.getfield 34, 3) := dk_180 0 34 (dk_at dksX7_fishersBy_2 0 rfl rfl)
theorem dX7_fishersBy_49 : decode cX7_fishersBy 49 = .ok (.iload_n 1, 1) := dk_27 (dk_at dksX7_fishersBy_2 3 rfl rfl)
theorem dX7_fishersBy_50 : decode cX7_fishersBy 50 = .ok (.iaload, 1) := dk_46 (dk_at dksX7_fishersBy_2 4 rfl rfl)
theorem dX7_fishersBy_51 : decode cX7_fishersBy 51 = .ok (.iload_n 2, 1) := dk_28 (dk_at dksX7_fishersBy_2 5 rfl rfl)
theorem dX7_fishersBy_52 : decode cX7_fishersBy 52 = .ok (.if_icmp .eq 6, 3) := dk_159 0 6 (dk_at dksX7_fishersBy_2 6 rfl rfl)
theorem dX7_fishersBy_55 : decode cX7_fishersBy 55 = .ok (.bipush (-13), 2) := dk_16 243 (dk_at dksX7_fishersBy_2 9 rfl rfl)
theorem dX7_fishersBy_57 : decode cX7_fishersBy 57 = .ok (.ireturn, 1) := dk_172 (dk_at dksX7_fishersBy_2 11 rfl rfl)
theorem dX7_fishersBy_58 : decode cX7_fishersBy 58 = .ok (.iconst 0, 1) := dk_3 (dk_at dksX7_fishersBy_2 12 rfl rfl)
theorem dX7_fishersBy_59 : decode cX7_fishersBy 59 = .ok (.istore 5, 2) := dk_54 5 (dk_at dksX7_fishersBy_2 13 rfl rfl)
theorem dX7_fishersBy_61 : decode cX7_fishersBy 61 = .ok (.iconst 0, 1) := dk_3 (dk_at dksX7_fishersBy_2 15 rfl rfl)
theorem dX7_fishersBy_62 : decode cX7_fishersBy 62 = .ok (.istore 6, 2) := dk_54 6 (dk_at dksX7_fishersBy_2 16 rfl rfl)
theorem dX7_fishersBy_64 : decode cX7_fishersBy 64 = .ok (.iload 6, 2) := dk_21 6 (dk_at dksX7_fishersBy_2 18 rfl rfl)
theorem dX7_fishersBy_66 : decode cX7_fishersBy 66 = .ok (.iload 4, 2) := dk_21 4 (dk_at dksX7_fishersBy_2 20 rfl rfl)
theorem dX7_fishersBy_68 : decode cX7_fishersBy 68 = .ok (.if_icmp .ge 85, 3) := dk_162 0 85 (dk_at dksX7_fishersBy_3 0 rfl rfl)
theorem dX7_fishersBy_71 : decode cX7_fishersBy 71 = .ok (.iload_n 3, 1) := dk_29 (dk_at dksX7_fishersBy_3 3 rfl rfl)
theorem dX7_fishersBy_72 : decode cX7_fishersBy 72 = .ok (.iconst 2, 1) := dk_5 (dk_at dksX7_fishersBy_3 4 rfl rfl)
theorem dX7_fishersBy_73 : decode cX7_fishersBy 73 = .ok (.iload 6, 2) := dk_21 6 (dk_at dksX7_fishersBy_3 5 rfl rfl)
theorem dX7_fishersBy_75 : decode cX7_fishersBy 75 = .ok (.imul, 1) := dk_104 (dk_at dksX7_fishersBy_3 7 rfl rfl)
theorem dX7_fishersBy_76 : decode cX7_fishersBy 76 = .ok (.iadd, 1) := dk_96 (dk_at dksX7_fishersBy_3 8 rfl rfl)
theorem dX7_fishersBy_77 : decode cX7_fishersBy 77 = .ok (.istore 7, 2) := dk_54 7 (dk_at dksX7_fishersBy_3 9 rfl rfl)
theorem dX7_fishersBy_79 : decode cX7_fishersBy 79 = .ok (.iload_n 3, 1) := dk_29 (dk_at dksX7_fishersBy_3 11 rfl rfl)
theorem dX7_fishersBy_80 : decode cX7_fishersBy 80 = .ok (.ifCond .lt 22, 3) := dk_155 0 22 (dk_at dksX7_fishersBy_3 12 rfl rfl)
theorem dX7_fishersBy_83 : decode cX7_fishersBy 83 = .ok (.iload 7, 2) := dk_21 7 (dk_at dksX7_fishersBy_3 15 rfl rfl)
theorem dX7_fishersBy_85 : decode cX7_fishersBy 85 = .ok (.iload_n 3, 1) := dk_29 (dk_at dksX7_fishersBy_3 17 rfl rfl)
theorem dX7_fishersBy_86 : decode cX7_fishersBy 86 = .ok (.if_icmp .lt 16, 3) := dk_161 0 16 (dk_at dksX7_fishersBy_3 18 rfl rfl)
theorem dX7_fishersBy_89 : decode cX7_fishersBy 89 = .ok (.iload 7, 2) := dk_21 7 (dk_at dksX7_fishersBy_3 21 rfl rfl)
theorem dX7_fishersBy_91 : decode cX7_fishersBy 91 = .ok (.aload_n 0, 1) := dk_42 (dk_at dksX7_fishersBy_3 23 rfl rfl)
theorem dX7_fishersBy_92 : decode cX7_fishersBy 92 = .ok (.getfield 37, 3) := dk_180 0 37 (dk_at dksX7_fishersBy_4 0 rfl rfl)
theorem dX7_fishersBy_95 : decode cX7_fishersBy 95 = .ok (.iload_n 1, 1) := dk_27 (dk_at dksX7_fishersBy_4 3 rfl rfl)
theorem dX7_fishersBy_96 : decode cX7_fishersBy 96 = .ok (.iaload, 1) := dk_46 (dk_at dksX7_fishersBy_4 4 rfl rfl)
theorem dX7_fishersBy_97 : decode cX7_fishersBy 97 = .ok (.iconst 2, 1) := dk_5 (dk_at dksX7_fishersBy_4 5 rfl rfl)
theorem dX7_fishersBy_98 : decode cX7_fishersBy 98 = .ok (.isub, 1) := dk_100 (dk_at dksX7_fishersBy_4 6 rfl rfl)
theorem dX7_fishersBy_99 : decode cX7_fishersBy 99 = .ok (.if_icmp .le 6, 3) := dk_164 0 6 (dk_at dksX7_fishersBy_4 7 rfl rfl)
theorem dX7_fishersBy_102 : decode cX7_fishersBy 102 = .ok (.bipush (-12), 2) := dk_16 244 (dk_at dksX7_fishersBy_4 10 rfl rfl)
theorem dX7_fishersBy_104 : decode cX7_fishersBy 104 = .ok (.ireturn, 1) := dk_172 (dk_at dksX7_fishersBy_4 12 rfl rfl)
theorem dX7_fishersBy_105 : decode cX7_fishersBy 105 = .ok (.bipush 40, 2) := dk_16 40 (dk_at dksX7_fishersBy_4 13 rfl rfl)
theorem dX7_fishersBy_107 : decode cX7_fishersBy 107 = .ok (.iload_n 1, 1) := dk_27 (dk_at dksX7_fishersBy_4 15 rfl rfl)
theorem dX7_fishersBy_108 : decode cX7_fishersBy 108 = .ok (.imul, 1) := dk_104 (dk_at dksX7_fishersBy_4 16 rfl rfl)
theorem dX7_fishersBy_109 : decode cX7_fishersBy 109 = .ok (.iload 7, 2) := dk_21 7 (dk_at dksX7_fishersBy_4 17 rfl rfl)
theorem dX7_fishersBy_111 : decode cX7_fishersBy 111 = .ok (.iadd, 1) := dk_96 (dk_at dksX7_fishersBy_4 19 rfl rfl)
theorem dX7_fishersBy_112 : decode cX7_fishersBy 112 = .ok (.istore 8, 2) := dk_54 8 (dk_at dksX7_fishersBy_4 20 rfl rfl)
theorem dX7_fishersBy_114 : decode cX7_fishersBy 114 = .ok (.iload 5, 2) := dk_21 5 (dk_at dksX7_fishersBy_4 22 rfl rfl)
theorem dX7_fishersBy_116 : decode cX7_fishersBy 116 = .ok (.aload_n 0, 1) := dk_42 (dk_at dksX7_fishersBy_5 0 rfl rfl)
theorem dX7_fishersBy_117 : decode cX7_fishersBy 117 = .ok (.aload_n 0, 1) := dk_42 (dk_at dksX7_fishersBy_5 1 rfl rfl)
theorem dX7_fishersBy_118 : decode cX7_fishersBy 118 = .ok (.getfield 40, 3) := dk_180 0 40 (dk_at dksX7_fishersBy_5 2 rfl rfl)
theorem dX7_fishersBy_121 : decode cX7_fishersBy 121 = .ok (.iload 8, 2) := dk_21 8 (dk_at dksX7_fishersBy_5 5 rfl rfl)
theorem dX7_fishersBy_123 : decode cX7_fishersBy 123 = .ok (.iaload, 1) := dk_46 (dk_at dksX7_fishersBy_5 7 rfl rfl)
theorem dX7_fishersBy_124 : decode cX7_fishersBy 124 = .ok (.aload_n 0, 1) := dk_42 (dk_at dksX7_fishersBy_5 8 rfl rfl)
theorem dX7_fishersBy_125 : decode cX7_fishersBy 125 = .ok (.getfield 40, 3) := dk_180 0 40 (dk_at dksX7_fishersBy_5 9 rfl rfl)
theorem dX7_fishersBy_128 : decode cX7_fishersBy 128 = .ok (.iload 8, 2) := dk_21 8 (dk_at dksX7_fishersBy_5 12 rfl rfl)
theorem dX7_fishersBy_130 : decode cX7_fishersBy 130 = .ok (.iconst 1, 1) := dk_4 (dk_at dksX7_fishersBy_5 14 rfl rfl)
theorem dX7_fishersBy_131 : decode cX7_fishersBy 131 = .ok (.iadd, 1) := dk_96 (dk_at dksX7_fishersBy_5 15 rfl rfl)
theorem dX7_fishersBy_132 : decode cX7_fishersBy 132 = .ok (.iaload, 1) := dk_46 (dk_at dksX7_fishersBy_5 16 rfl rfl)
theorem dX7_fishersBy_133 : decode cX7_fishersBy 133 = .ok (.invokevirtual 258, 3) := dk_182 1 2 (dk_at dksX7_fishersBy_5 17 rfl rfl)
theorem dX7_fishersBy_136 : decode cX7_fishersBy 136 = .ok (.ifCond .lt 7, 3) := dk_155 0 7 (dk_at dksX7_fishersBy_5 20 rfl rfl)
theorem dX7_fishersBy_139 : decode cX7_fishersBy 139 = .ok (.iconst 1, 1) := dk_4 (dk_at dksX7_fishersBy_5 23 rfl rfl)
theorem dX7_fishersBy_140 : decode cX7_fishersBy 140 = .ok (.goto 4, 3) := dk_167 0 4 (dk_at dksX7_fishersBy_6 0 rfl rfl)
theorem dX7_fishersBy_143 : decode cX7_fishersBy 143 = .ok (.iconst 0, 1) := dk_3 (dk_at dksX7_fishersBy_6 3 rfl rfl)
theorem dX7_fishersBy_144 : decode cX7_fishersBy 144 = .ok (.iadd, 1) := dk_96 (dk_at dksX7_fishersBy_6 4 rfl rfl)
theorem dX7_fishersBy_145 : decode cX7_fishersBy 145 = .ok (.istore 5, 2) := dk_54 5 (dk_at dksX7_fishersBy_6 5 rfl rfl)
theorem dX7_fishersBy_147 : decode cX7_fishersBy 147 = .ok (.iinc 6 1, 3) := dk_132 6 1 (dk_at dksX7_fishersBy_6 7 rfl rfl)
theorem dX7_fishersBy_150 : decode cX7_fishersBy 150 = .ok (.goto (-86), 3) := dk_167 255 170 (dk_at dksX7_fishersBy_6 10 rfl rfl)
theorem dX7_fishersBy_153 : decode cX7_fishersBy 153 = .ok (.iload 5, 2) := dk_21 5 (dk_at dksX7_fishersBy_6 13 rfl rfl)
theorem dX7_fishersBy_155 : decode cX7_fishersBy 155 = .ok (.ireturn, 1) := dk_172 (dk_at dksX7_fishersBy_6 15 rfl rfl)
abbrev cX7_taken : ByteArray := prog_19_method_79_code
def yX7_taken : MethodName := ⟨RX7, "taken", "(II)I"⟩
def dkwX7_taken_4 : List UInt8 := [172]
abbrev dktX7_taken_4 : List UInt8 := dkwX7_taken_4 ++ []
def dkwX7_taken_3 : List UInt8 := [16, 6, 162, 0, 20, 42, 180, 0, 7, 27, 46, 28, 184, 1, 5, 153, 0, 7, 27, 167, 0, 5, 16, 243]
abbrev dktX7_taken_3 : List UInt8 := dkwX7_taken_3 ++ dktX7_taken_4
def dkwX7_taken_2 : List UInt8 := [16, 6, 160, 0, 17, 42, 180, 0, 16, 6, 27, 16, 6, 100, 104, 46, 167, 0, 5, 16, 243, 172, 28]
abbrev dktX7_taken_2 : List UInt8 := dkwX7_taken_2 ++ dktX7_taken_3
def dkwX7_taken_1 : List UInt8 := [16, 244, 172, 27, 16, 6, 112, 42, 180, 0, 69, 161, 0, 6, 16, 245, 172, 27, 16, 6, 161, 0, 26, 28]
abbrev dktX7_taken_1 : List UInt8 := dkwX7_taken_1 ++ dktX7_taken_2
def dkwX7_taken_0 : List UInt8 := [28, 3, 16, 6, 184, 0, 72, 154, 0, 6, 16, 254, 172, 27, 3, 16, 11, 184, 0, 72, 154, 0, 6]
abbrev dktX7_taken_0 : List UInt8 := dkwX7_taken_0 ++ dktX7_taken_1
theorem dksX7_taken_0 : cX7_taken.data.toList.drop 0 = dktX7_taken_0 := by decide +kernel
theorem dksX7_taken_1 : cX7_taken.data.toList.drop 23 = dktX7_taken_1 := dk_seg dksX7_taken_0 23 rfl rfl
theorem dksX7_taken_2 : cX7_taken.data.toList.drop 47 = dktX7_taken_2 := dk_seg dksX7_taken_1 24 rfl rfl
theorem dksX7_taken_3 : cX7_taken.data.toList.drop 70 = dktX7_taken_3 := dk_seg dksX7_taken_2 23 rfl rfl
theorem dksX7_taken_4 : cX7_taken.data.toList.drop 94 = dktX7_taken_4 := dk_seg dksX7_taken_3 24 rfl rfl
theorem dX7_taken_0 : decode cX7_taken 0 = .ok (.iload_n 2, 1) := dk_28 (dk_at dksX7_taken_0 0 rfl rfl)
theorem dX7_taken_1 : decode cX7_taken 1 = .ok (.iconst 0, 1) := dk_3 (dk_at dksX7_taken_0 1 rfl rfl)
theorem dX7_taken_2 : decode cX7_taken 2 = .ok (.bipush 6, 2) := dk_16 6 (dk_at dksX7_taken_0 2 rfl rfl)
theorem dX7_taken_4 : decode cX7_taken 4 = .ok (.invokestatic 72, 3) := dk_184 0 72 (dk_at dksX7_taken_0 4 rfl rfl)
theorem dX7_taken_7 : decode cX7_taken 7 = .ok (.ifCond .ne 6, 3) := dk_154 0 6 (dk_at dksX7_taken_0 7 rfl rfl)
theorem dX7_taken_10 : decode cX7_taken 10 = .ok (.bipush (-2), 2) := dk_16 254 (dk_at dksX7_taken_0 10 rfl rfl)
theorem dX7_taken_12 : decode cX7_taken 12 = .ok (.ireturn, 1) := dk_172 (dk_at dksX7_taken_0 12 rfl rfl)
theorem dX7_taken_13 : decode cX7_taken 13 = .ok (.iload_n 1, 1) := dk_27 (dk_at dksX7_taken_0 13 rfl rfl)
theorem dX7_taken_14 : decode cX7_taken 14 = .ok (.iconst 0, 1) := dk_3 (dk_at dksX7_taken_0 14 rfl rfl)
theorem dX7_taken_15 : decode cX7_taken 15 = .ok (.bipush 11, 2) := dk_16 11 (dk_at dksX7_taken_0 15 rfl rfl)
theorem dX7_taken_17 : decode cX7_taken 17 = .ok (.invokestatic 72, 3) := dk_184 0 72 (dk_at dksX7_taken_0 17 rfl rfl)
theorem dX7_taken_20 : decode cX7_taken 20 = .ok (.ifCond .ne 6, 3) := dk_154 0 6 (dk_at dksX7_taken_0 20 rfl rfl)
theorem dX7_taken_23 : decode cX7_taken 23 = .ok (.bipush (-12), 2) := dk_16 244 (dk_at dksX7_taken_1 0 rfl rfl)
theorem dX7_taken_25 : decode cX7_taken 25 = .ok (.ireturn, 1) := dk_172 (dk_at dksX7_taken_1 2 rfl rfl)
theorem dX7_taken_26 : decode cX7_taken 26 = .ok (.iload_n 1, 1) := dk_27 (dk_at dksX7_taken_1 3 rfl rfl)
theorem dX7_taken_27 : decode cX7_taken 27 = .ok (.bipush 6, 2) := dk_16 6 (dk_at dksX7_taken_1 4 rfl rfl)
theorem dX7_taken_29 : decode cX7_taken 29 = .ok (.irem, 1) := dk_112 (dk_at dksX7_taken_1 6 rfl rfl)
theorem dX7_taken_30 : decode cX7_taken 30 = .ok (.aload_n 0, 1) := dk_42 (dk_at dksX7_taken_1 7 rfl rfl)
theorem dX7_taken_31 : decode cX7_taken 31 = .ok (.getfield 69, 3) := dk_180 0 69 (dk_at dksX7_taken_1 8 rfl rfl)
theorem dX7_taken_34 : decode cX7_taken 34 = .ok (.if_icmp .lt 6, 3) := dk_161 0 6 (dk_at dksX7_taken_1 11 rfl rfl)
theorem dX7_taken_37 : decode cX7_taken 37 = .ok (.bipush (-11), 2) := dk_16 245 (dk_at dksX7_taken_1 14 rfl rfl)
theorem dX7_taken_39 : decode cX7_taken 39 = .ok (.ireturn, 1) := dk_172 (dk_at dksX7_taken_1 16 rfl rfl)
theorem dX7_taken_40 : decode cX7_taken 40 = .ok (.iload_n 1, 1) := dk_27 (dk_at dksX7_taken_1 17 rfl rfl)
theorem dX7_taken_41 : decode cX7_taken 41 = .ok (.bipush 6, 2) := dk_16 6 (dk_at dksX7_taken_1 18 rfl rfl)
theorem dX7_taken_43 : decode cX7_taken 43 = .ok (.if_icmp .lt 26, 3) := dk_161 0 26 (dk_at dksX7_taken_1 20 rfl rfl)
theorem dX7_taken_46 : decode cX7_taken 46 = .ok (.iload_n 2, 1) := dk_28 (dk_at dksX7_taken_1 23 rfl rfl)
theorem dX7_taken_47 : decode cX7_taken 47 = .ok (.bipush 6, 2) := dk_16 6 (dk_at dksX7_taken_2 0 rfl rfl)
theorem dX7_taken_49 : decode cX7_taken 49 = .ok (.if_icmp .ne 17, 3) := dk_160 0 17 (dk_at dksX7_taken_2 2 rfl rfl)
theorem dX7_taken_52 : decode cX7_taken 52 = .ok (.aload_n 0, 1) := dk_42 (dk_at dksX7_taken_2 5 rfl rfl)
theorem dX7_taken_53 : decode cX7_taken 53 = .ok (.getfield 16, 3) := dk_180 0 16 (dk_at dksX7_taken_2 6 rfl rfl)
theorem dX7_taken_56 : decode cX7_taken 56 = .ok (.iconst 3, 1) := dk_6 (dk_at dksX7_taken_2 9 rfl rfl)
theorem dX7_taken_57 : decode cX7_taken 57 = .ok (.iload_n 1, 1) := dk_27 (dk_at dksX7_taken_2 10 rfl rfl)
theorem dX7_taken_58 : decode cX7_taken 58 = .ok (.bipush 6, 2) := dk_16 6 (dk_at dksX7_taken_2 11 rfl rfl)
theorem dX7_taken_60 : decode cX7_taken 60 = .ok (.isub, 1) := dk_100 (dk_at dksX7_taken_2 13 rfl rfl)
theorem dX7_taken_61 : decode cX7_taken 61 = .ok (.imul, 1) := dk_104 (dk_at dksX7_taken_2 14 rfl rfl)
theorem dX7_taken_62 : decode cX7_taken 62 = .ok (.iaload, 1) := dk_46 (dk_at dksX7_taken_2 15 rfl rfl)
theorem dX7_taken_63 : decode cX7_taken 63 = .ok (.goto 5, 3) := dk_167 0 5 (dk_at dksX7_taken_2 16 rfl rfl)
theorem dX7_taken_66 : decode cX7_taken 66 = .ok (.bipush (-13), 2) := dk_16 243 (dk_at dksX7_taken_2 19 rfl rfl)
theorem dX7_taken_68 : decode cX7_taken 68 = .ok (.ireturn, 1) := dk_172 (dk_at dksX7_taken_2 21 rfl rfl)
theorem dX7_taken_69 : decode cX7_taken 69 = .ok (.iload_n 2, 1) := dk_28 (dk_at dksX7_taken_2 22 rfl rfl)
theorem dX7_taken_70 : decode cX7_taken 70 = .ok (.bipush 6, 2) := dk_16 6 (dk_at dksX7_taken_3 0 rfl rfl)
theorem dX7_taken_72 : decode cX7_taken 72 = .ok (.if_icmp .ge 20, 3) := dk_162 0 20 (dk_at dksX7_taken_3 2 rfl rfl)
theorem dX7_taken_75 : decode cX7_taken 75 = .ok (.aload_n 0, 1) := dk_42 (dk_at dksX7_taken_3 5 rfl rfl)
theorem dX7_taken_76 : decode cX7_taken 76 = .ok (.getfield 7, 3) := dk_180 0 7 (dk_at dksX7_taken_3 6 rfl rfl)
theorem dX7_taken_79 : decode cX7_taken 79 = .ok (.iload_n 1, 1) := dk_27 (dk_at dksX7_taken_3 9 rfl rfl)
theorem dX7_taken_80 : decode cX7_taken 80 = .ok (.iaload, 1) := dk_46 (dk_at dksX7_taken_3 10 rfl rfl)
theorem dX7_taken_81 : decode cX7_taken 81 = .ok (.iload_n 2, 1) := dk_28 (dk_at dksX7_taken_3 11 rfl rfl)
theorem dX7_taken_82 : decode cX7_taken 82 = .ok (.invokestatic 261, 3) := dk_184 1 5 (dk_at dksX7_taken_3 12 rfl rfl)
theorem dX7_taken_85 : decode cX7_taken 85 = .ok (.ifCond .eq 7, 3) := dk_153 0 7 (dk_at dksX7_taken_3 15 rfl rfl)
theorem dX7_taken_88 : decode cX7_taken 88 = .ok (.iload_n 1, 1) := dk_27 (dk_at dksX7_taken_3 18 rfl rfl)
theorem dX7_taken_89 : decode cX7_taken 89 = .ok (.goto 5, 3) := dk_167 0 5 (dk_at dksX7_taken_3 19 rfl rfl)
theorem dX7_taken_92 : decode cX7_taken 92 = .ok (.bipush (-13), 2) := dk_16 243 (dk_at dksX7_taken_3 22 rfl rfl)
theorem dX7_taken_94 : decode cX7_taken 94 = .ok (.ireturn, 1) := dk_172 (dk_at dksX7_taken_4 0 rfl rfl)
abbrev cX7_isUnder : ByteArray := prog_19_method_78_code
def yX7_isUnder : MethodName := ⟨RX7, "isUnder", "(II)Z"⟩
def dkwX7_isUnder_1 : List UInt8 := [26, 7, 160, 0, 7, 4, 167, 0, 4, 3, 172]
abbrev dktX7_isUnder_1 : List UInt8 := dkwX7_isUnder_1 ++ []
def dkwX7_isUnder_0 : List UInt8 := [27, 153, 0, 28, 26, 27, 159, 0, 23, 27, 4, 160, 0, 8, 26, 6, 159, 0, 13, 27, 5, 160, 0, 12]
abbrev dktX7_isUnder_0 : List UInt8 := dkwX7_isUnder_0 ++ dktX7_isUnder_1
theorem dksX7_isUnder_0 : cX7_isUnder.data.toList.drop 0 = dktX7_isUnder_0 := by decide +kernel
theorem dksX7_isUnder_1 : cX7_isUnder.data.toList.drop 24 = dktX7_isUnder_1 := dk_seg dksX7_isUnder_0 24 rfl rfl
theorem dX7_isUnder_0 : decode cX7_isUnder 0 = .ok (.iload_n 1, 1) := dk_27 (dk_at dksX7_isUnder_0 0 rfl rfl)
theorem dX7_isUnder_1 : decode cX7_isUnder 1 = .ok (.ifCond .eq 28, 3) := dk_153 0 28 (dk_at dksX7_isUnder_0 1 rfl rfl)
theorem dX7_isUnder_4 : decode cX7_isUnder 4 = .ok (.iload_n 0, 1) := dk_26 (dk_at dksX7_isUnder_0 4 rfl rfl)
theorem dX7_isUnder_5 : decode cX7_isUnder 5 = .ok (.iload_n 1, 1) := dk_27 (dk_at dksX7_isUnder_0 5 rfl rfl)
theorem dX7_isUnder_6 : decode cX7_isUnder 6 = .ok (.if_icmp .eq 23, 3) := dk_159 0 23 (dk_at dksX7_isUnder_0 6 rfl rfl)
theorem dX7_isUnder_9 : decode cX7_isUnder 9 = .ok (.iload_n 1, 1) := dk_27 (dk_at dksX7_isUnder_0 9 rfl rfl)
theorem dX7_isUnder_10 : decode cX7_isUnder 10 = .ok (.iconst 1, 1) := dk_4 (dk_at dksX7_isUnder_0 10 rfl rfl)
theorem dX7_isUnder_11 : decode cX7_isUnder 11 = .ok (.if_icmp .ne 8, 3) := dk_160 0 8 (dk_at dksX7_isUnder_0 11 rfl rfl)
theorem dX7_isUnder_14 : decode cX7_isUnder 14 = .ok (.iload_n 0, 1) := dk_26 (dk_at dksX7_isUnder_0 14 rfl rfl)
theorem dX7_isUnder_15 : decode cX7_isUnder 15 = .ok (.iconst 3, 1) := dk_6 (dk_at dksX7_isUnder_0 15 rfl rfl)
theorem dX7_isUnder_16 : decode cX7_isUnder 16 = .ok (.if_icmp .eq 13, 3) := dk_159 0 13 (dk_at dksX7_isUnder_0 16 rfl rfl)
theorem dX7_isUnder_19 : decode cX7_isUnder 19 = .ok (.iload_n 1, 1) := dk_27 (dk_at dksX7_isUnder_0 19 rfl rfl)
theorem dX7_isUnder_20 : decode cX7_isUnder 20 = .ok (.iconst 2, 1) := dk_5 (dk_at dksX7_isUnder_0 20 rfl rfl)
theorem dX7_isUnder_21 : decode cX7_isUnder 21 = .ok (.if_icmp .ne 12, 3) := dk_160 0 12 (dk_at dksX7_isUnder_0 21 rfl rfl)
theorem dX7_isUnder_24 : decode cX7_isUnder 24 = .ok (.iload_n 0, 1) := dk_26 (dk_at dksX7_isUnder_1 0 rfl rfl)
theorem dX7_isUnder_25 : decode cX7_isUnder 25 = .ok (.iconst 4, 1) := dk_7 (dk_at dksX7_isUnder_1 1 rfl rfl)
theorem dX7_isUnder_26 : decode cX7_isUnder 26 = .ok (.if_icmp .ne 7, 3) := dk_160 0 7 (dk_at dksX7_isUnder_1 2 rfl rfl)
theorem dX7_isUnder_29 : decode cX7_isUnder 29 = .ok (.iconst 1, 1) := dk_4 (dk_at dksX7_isUnder_1 5 rfl rfl)
theorem dX7_isUnder_30 : decode cX7_isUnder 30 = .ok (.goto 4, 3) := dk_167 0 4 (dk_at dksX7_isUnder_1 6 rfl rfl)
theorem dX7_isUnder_33 : decode cX7_isUnder 33 = .ok (.iconst 0, 1) := dk_3 (dk_at dksX7_isUnder_1 9 rfl rfl)
theorem dX7_isUnder_34 : decode cX7_isUnder 34 = .ok (.ireturn, 1) := dk_172 (dk_at dksX7_isUnder_1 10 rfl rfl)

