set_option maxRecDepth 100000
abbrev cX9_init : ByteArray := prog_17_method_1_code
def yX9_init : MethodName := ⟨RX9, "<init>", "()V"⟩
def dkwX9_init_20 : List UInt8 := [188, 11, 181, 0, 39, 42, 182, 0, 43, 42, 182, 0, 46, 177]
abbrev dktX9_init_20 : List UInt8 := dkwX9_init_20 ++ []
def dkwX9_init_19 : List UInt8 := [188, 10, 181, 0, 29, 42, 16, 14, 188, 10, 181, 0, 32, 42, 18, 35, 188, 10, 181, 0, 36, 42, 8]
abbrev dktX9_init_19 : List UInt8 := dkwX9_init_19 ++ dktX9_init_20
def dkwX9_init_18 : List UInt8 := [188, 10, 181, 0, 20, 42, 16, 96, 188, 10, 181, 0, 23, 42, 16, 96, 188, 10, 181, 0, 26, 42, 16, 40]
abbrev dktX9_init_18 : List UInt8 := dkwX9_init_18 ++ dktX9_init_19
def dkwX9_init_17 : List UInt8 := [89, 16, 66, 16, 114, 79, 89, 16, 67, 16, 32, 79, 181, 0, 13, 42, 2, 181, 0, 16, 42, 16, 64]
abbrev dktX9_init_17 : List UInt8 := dkwX9_init_17 ++ dktX9_init_18
def dkwX9_init_16 : List UInt8 := [89, 16, 62, 16, 32, 79, 89, 16, 63, 16, 110, 79, 89, 16, 64, 16, 101, 79, 89, 16, 65, 16, 97, 79]
abbrev dktX9_init_16 : List UInt8 := dkwX9_init_16 ++ dktX9_init_17
def dkwX9_init_15 : List UInt8 := [89, 16, 58, 16, 100, 79, 89, 16, 59, 16, 111, 79, 89, 16, 60, 16, 119, 79, 89, 16, 61, 16, 110, 79]
abbrev dktX9_init_15 : List UInt8 := dkwX9_init_15 ++ dktX9_init_16
def dkwX9_init_14 : List UInt8 := [89, 16, 54, 16, 32, 79, 89, 16, 55, 16, 117, 79, 89, 16, 56, 16, 112, 79, 89, 16, 57, 16, 32, 79]
abbrev dktX9_init_14 : List UInt8 := dkwX9_init_14 ++ dktX9_init_15
def dkwX9_init_13 : List UInt8 := [89, 16, 50, 16, 115, 79, 89, 16, 51, 16, 115, 79, 89, 16, 52, 16, 101, 79, 89, 16, 53, 16, 116, 79]
abbrev dktX9_init_13 : List UInt8 := dkwX9_init_13 ++ dktX9_init_14
def dkwX9_init_12 : List UInt8 := [89, 16, 46, 16, 117, 79, 89, 16, 47, 16, 121, 79, 89, 16, 48, 16, 32, 79, 89, 16, 49, 16, 97, 79]
abbrev dktX9_init_12 : List UInt8 := dkwX9_init_12 ++ dktX9_init_13
def dkwX9_init_11 : List UInt8 := [89, 16, 42, 16, 108, 79, 89, 16, 43, 16, 101, 79, 89, 16, 44, 16, 32, 79, 89, 16, 45, 16, 98, 79]
abbrev dktX9_init_11 : List UInt8 := dkwX9_init_11 ++ dktX9_init_12
def dkwX9_init_10 : List UInt8 := [89, 16, 38, 16, 100, 79, 89, 16, 39, 16, 32, 79, 89, 16, 40, 16, 115, 79, 89, 16, 41, 16, 97, 79]
abbrev dktX9_init_10 : List UInt8 := dkwX9_init_10 ++ dktX9_init_11
def dkwX9_init_9 : List UInt8 := [89, 16, 34, 16, 32, 79, 89, 16, 35, 16, 115, 79, 89, 16, 36, 16, 101, 79, 89, 16, 37, 16, 101, 79]
abbrev dktX9_init_9 : List UInt8 := dkwX9_init_9 ++ dktX9_init_10
def dkwX9_init_8 : List UInt8 := [89, 16, 30, 16, 105, 79, 89, 16, 31, 16, 109, 79, 89, 16, 32, 16, 105, 79, 89, 16, 33, 16, 116, 79]
abbrev dktX9_init_8 : List UInt8 := dkwX9_init_8 ++ dktX9_init_9
def dkwX9_init_7 : List UInt8 := [89, 16, 26, 16, 101, 79, 89, 16, 27, 16, 112, 79, 89, 16, 28, 16, 32, 79, 89, 16, 29, 16, 108, 79]
abbrev dktX9_init_7 : List UInt8 := dkwX9_init_7 ++ dktX9_init_8
def dkwX9_init_6 : List UInt8 := [89, 16, 22, 16, 100, 79, 89, 16, 23, 16, 32, 79, 89, 16, 24, 16, 115, 79, 89, 16, 25, 16, 116, 79]
abbrev dktX9_init_6 : List UInt8 := dkwX9_init_6 ++ dktX9_init_7
def dkwX9_init_5 : List UInt8 := [89, 16, 18, 16, 114, 79, 89, 16, 19, 16, 111, 79, 89, 16, 20, 16, 117, 79, 89, 16, 21, 16, 110, 79]
abbrev dktX9_init_5 : List UInt8 := dkwX9_init_5 ++ dktX9_init_6
def dkwX9_init_4 : List UInt8 := [89, 16, 14, 16, 97, 79, 89, 16, 15, 16, 114, 79, 89, 16, 16, 16, 116, 79, 89, 16, 17, 16, 32, 79]
abbrev dktX9_init_4 : List UInt8 := dkwX9_init_4 ++ dktX9_init_5
def dkwX9_init_3 : List UInt8 := [89, 16, 10, 16, 100, 79, 89, 16, 11, 16, 32, 79, 89, 16, 12, 16, 115, 79, 89, 16, 13, 16, 116, 79]
abbrev dktX9_init_3 : List UInt8 := dkwX9_init_3 ++ dktX9_init_4
def dkwX9_init_2 : List UInt8 := [89, 16, 6, 16, 32, 79, 89, 16, 7, 16, 104, 79, 89, 16, 8, 16, 101, 79, 89, 16, 9, 16, 97, 79]
abbrev dktX9_init_2 : List UInt8 := dkwX9_init_2 ++ dktX9_init_3
def dkwX9_init_1 : List UInt8 := [4, 16, 114, 79, 89, 5, 16, 97, 79, 89, 6, 16, 100, 79, 89, 7, 16, 101, 79, 89, 8, 16, 114, 79]
abbrev dktX9_init_1 : List UInt8 := dkwX9_init_1 ++ dktX9_init_2
def dkwX9_init_0 : List UInt8 := [42, 183, 0, 1, 42, 17, 2, 188, 188, 10, 181, 0, 7, 42, 16, 68, 188, 10, 89, 3, 16, 116, 79, 89]
abbrev dktX9_init_0 : List UInt8 := dkwX9_init_0 ++ dktX9_init_1
theorem dksX9_init_0 : cX9_init.data.toList.drop 0 = dktX9_init_0 := by decide +kernel
theorem dksX9_init_1 : cX9_init.data.toList.drop 24 = dktX9_init_1 := dk_seg dksX9_init_0 24 rfl rfl
theorem dksX9_init_2 : cX9_init.data.toList.drop 48 = dktX9_init_2 := dk_seg dksX9_init_1 24 rfl rfl
theorem dksX9_init_3 : cX9_init.data.toList.drop 72 = dktX9_init_3 := dk_seg dksX9_init_2 24 rfl rfl
theorem dksX9_init_4 : cX9_init.data.toList.drop 96 = dktX9_init_4 := dk_seg dksX9_init_3 24 rfl rfl
theorem dksX9_init_5 : cX9_init.data.toList.drop 120 = dktX9_init_5 := dk_seg dksX9_init_4 24 rfl rfl
theorem dksX9_init_6 : cX9_init.data.toList.drop 144 = dktX9_init_6 := dk_seg dksX9_init_5 24 rfl rfl
theorem dksX9_init_7 : cX9_init.data.toList.drop 168 = dktX9_init_7 := dk_seg dksX9_init_6 24 rfl rfl
theorem dksX9_init_8 : cX9_init.data.toList.drop 192 = dktX9_init_8 := dk_seg dksX9_init_7 24 rfl rfl
theorem dksX9_init_9 : cX9_init.data.toList.drop 216 = dktX9_init_9 := dk_seg dksX9_init_8 24 rfl rfl
theorem dksX9_init_10 : cX9_init.data.toList.drop 240 = dktX9_init_10 := dk_seg dksX9_init_9 24 rfl rfl
theorem dksX9_init_11 : cX9_init.data.toList.drop 264 = dktX9_init_11 := dk_seg dksX9_init_10 24 rfl rfl
theorem dksX9_init_12 : cX9_init.data.toList.drop 288 = dktX9_init_12 := dk_seg dksX9_init_11 24 rfl rfl
theorem dksX9_init_13 : cX9_init.data.toList.drop 312 = dktX9_init_13 := dk_seg dksX9_init_12 24 rfl rfl
theorem dksX9_init_14 : cX9_init.data.toList.drop 336 = dktX9_init_14 := dk_seg dksX9_init_13 24 rfl rfl
theorem dksX9_init_15 : cX9_init.data.toList.drop 360 = dktX9_init_15 := dk_seg dksX9_init_14 24 rfl rfl
theorem dksX9_init_16 : cX9_init.data.toList.drop 384 = dktX9_init_16 := dk_seg dksX9_init_15 24 rfl rfl
theorem dksX9_init_17 : cX9_init.data.toList.drop 408 = dktX9_init_17 := dk_seg dksX9_init_16 24 rfl rfl
theorem dksX9_init_18 : cX9_init.data.toList.drop 431 = dktX9_init_18 := dk_seg dksX9_init_17 23 rfl rfl
theorem dksX9_init_19 : cX9_init.data.toList.drop 455 = dktX9_init_19 := dk_seg dksX9_init_18 24 rfl rfl
theorem dksX9_init_20 : cX9_init.data.toList.drop 478 = dktX9_init_20 := dk_seg dksX9_init_19 23 rfl rfl
theorem dX9_init_0 : decode cX9_init 0 = .ok (.aload_n 0, 1) := dk_42 (dk_at dksX9_init_0 0 rfl rfl)
theorem dX9_init_1 : decode cX9_init 1 = .ok (.invokespecial 1, 3) := dk_183 0 1 (dk_at dksX9_init_0 1 rfl rfl)
theorem dX9_init_4 : decode cX9_init 4 = .ok (.aload_n 0, 1) := dk_42 (dk_at dksX9_init_0 4 rfl rfl)
theorem dX9_init_5 : decode cX9_init 5 = .ok (.sipush 700, 3) := dk_17 2 188 (dk_at dksX9_init_0 5 rfl rfl)
theorem dX9_init_8 : decode cX9_init 8 = .ok (.newarray .int, 2) := dk_188_10 (dk_at dksX9_init_0 8 rfl rfl)
theorem dX9_init_10 : decode cX9_init 10 = .ok (.putfield 7, 3) := dk_181 0 7 (dk_at dksX9_init_0 10 rfl rfl)
theorem dX9_init_13 : decode cX9_init 13 = .ok (.aload_n 0, 1) := dk_42 (dk_at dksX9_init_0 13 rfl rfl)
theorem dX9_init_14 : decode cX9_init 14 = .ok (.bipush 68, 2) := dk_16 68 (dk_at dksX9_init_0 14 rfl rfl)
theorem dX9_init_16 : decode cX9_init 16 = .ok (.newarray .int, 2) := dk_188_10 (dk_at dksX9_init_0 16 rfl rfl)
theorem dX9_init_18 : decode cX9_init 18 = .ok (.dup, 1) := dk_89 (dk_at dksX9_init_0 18 rfl rfl)
theorem dX9_init_19 : decode cX9_init 19 = .ok (.iconst 0, 1) := dk_3 (dk_at dksX9_init_0 19 rfl rfl)
theorem dX9_init_20 : decode cX9_init 20 = .ok (.bipush 116, 2) := dk_16 116 (dk_at dksX9_init_0 20 rfl rfl)
theorem dX9_init_22 : decode cX9_init 22 = .ok (.iastore, 1) := dk_79 (dk_at dksX9_init_0 22 rfl rfl)
theorem dX9_init_23 : decode cX9_init 23 = .ok (.dup, 1) := dk_89 (dk_at dksX9_init_0 23 rfl rfl)
theorem dX9_init_24 : decode cX9_init 24 = .ok (.iconst 1, 1) := dk_4 (dk_at dksX9_init_1 0 rfl rfl)
theorem dX9_init_25 : decode cX9_init 25 = .ok (.bipush 114, 2) := dk_16 114 (dk_at dksX9_init_1 1 rfl rfl)
theorem dX9_init_27 : decode cX9_init 27 = .ok (.iastore, 1) := dk_79 (dk_at dksX9_init_1 3 rfl rfl)
theorem dX9_init_28 : decode cX9_init 28 = .ok (.dup, 1) := dk_89 (dk_at dksX9_init_1 4 rfl rfl)
theorem dX9_init_29 : decode cX9_init 29 = .ok (.iconst 2, 1) := dk_5 (dk_at dksX9_init_1 5 rfl rfl)
theorem dX9_init_30 : decode cX9_init 30 = .ok (.bipush 97, 2) := dk_16 97 (dk_at dksX9_init_1 6 rfl rfl)
theorem dX9_init_32 : decode cX9_init 32 = .ok (.iastore, 1) := dk_79 (dk_at dksX9_init_1 8 rfl rfl)
theorem dX9_init_33 : decode cX9_init 33 = .ok (.dup, 1) := dk_89 (dk_at dksX9_init_1 9 rfl rfl)
theorem dX9_init_34 : decode cX9_init 34 = .ok (.iconst 3, 1) := dk_6 (dk_at dksX9_init_1 10 rfl rfl)
theorem dX9_init_35 : decode cX9_init 35 = .ok (.bipush 100, 2) := dk_16 100 (dk_at dksX9_init_1 11 rfl rfl)
theorem dX9_init_37 : decode cX9_init 37 = .ok (.iastore, 1) := dk_79 (dk_at dksX9_init_1 13 rfl rfl)
theorem dX9_init_38 : decode cX9_init 38 = .ok (.dup, 1) := dk_89 (dk_at dksX9_init_1 14 rfl rfl)
theorem dX9_init_39 : decode cX9_init 39 = .ok (.iconst 4, 1) := dk_7 (dk_at dksX9_init_1 15 rfl rfl)
theorem dX9_init_40 : decode cX9_init 40 = .ok (.bipush 101, 2) := dk_16 101 (dk_at dksX9_init_1 16 rfl rfl)
theorem dX9_init_42 : decode cX9_init 42 = .ok (.iastore, 1) := dk_79 (dk_at dksX9_init_1 18 rfl rfl)
theorem dX9_init_43 : decode cX9_init 43 = .ok (.dup, 1) := dk_89 (dk_at dksX9_init_1 19 rfl rfl)
theorem dX9_init_44 : decode cX9_init 44 = .ok (.iconst 5, 1) := dk_8 (dk_at dksX9_init_1 20 rfl rfl)
theorem dX9_init_45 : decode cX9_init 45 = .ok (.bipush 114, 2) := dk_16 114 (dk_at dksX9_init_1 21 rfl rfl)
theorem dX9_init_47 : decode cX9_init 47 = .ok (.iastore, 1) := dk_79 (dk_at dksX9_init_1 23 rfl rfl)
theorem dX9_init_48 : decode cX9_init 48 = .ok (.dup, 1) := dk_89 (dk_at dksX9_init_2 0 rfl rfl)
theorem dX9_init_49 : decode cX9_init 49 = .ok (.bipush 6, 2) := dk_16 6 (dk_at dksX9_init_2 1 rfl rfl)
theorem dX9_init_51 : decode cX9_init 51 = .ok (.bipush 32, 2) := dk_16 32 (dk_at dksX9_init_2 3 rfl rfl)
theorem dX9_init_53 : decode cX9_init 53 = .ok (.iastore, 1) := dk_79 (dk_at dksX9_init_2 5 rfl rfl)
theorem dX9_init_54 : decode cX9_init 54 = .ok (.dup, 1) := dk_89 (dk_at dksX9_init_2 6 rfl rfl)
theorem dX9_init_55 : decode cX9_init 55 = .ok (.bipush 7, 2) := dk_16 7 (dk_at dksX9_init_2 7 rfl rfl)
theorem dX9_init_57 : decode cX9_init 57 = .ok (.bipush 104, 2) := dk_16 104 (dk_at dksX9_init_2 9 rfl rfl)
theorem dX9_init_59 : decode cX9_init 59 = .ok (.iastore, 1) := dk_79 (dk_at dksX9_init_2 11 rfl rfl)
theorem dX9_init_60 : decode cX9_init 60 = .ok (.dup, 1) := dk_89 (dk_at dksX9_init_2 12 rfl rfl)
theorem dX9_init_61 : decode cX9_init 61 = .ok (.bipush 8, 2) := dk_16 8 (dk_at dksX9_init_2 13 rfl rfl)
theorem dX9_init_63 : decode cX9_init 63 = .ok (.bipush 101, 2) := dk_16 101 (dk_at dksX9_init_2 15 rfl rfl)
theorem dX9_init_65 : decode cX9_init 65 = .ok (.iastore, 1) := dk_79 (dk_at dksX9_init_2 17 rfl rfl)
theorem dX9_init_66 : decode cX9_init 66 = .ok (.dup, 1) := dk_89 (dk_at dksX9_init_2 18 rfl rfl)
theorem dX9_init_67 : decode cX9_init 67 = .ok (.bipush 9, 2) := dk_16 9 (dk_at dksX9_init_2 19 rfl rfl)
theorem dX9_init_69 : decode cX9_init 69 = .ok (.bipush 97, 2) := dk_16 97 (dk_at dksX9_init_2 21 rfl rfl)
theorem dX9_init_71 : decode cX9_init 71 = .ok (.iastore, 1) := dk_79 (dk_at dksX9_init_2 23 rfl rfl)
theorem dX9_init_72 : decode cX9_init 72 = .ok (.dup, 1) := dk_89 (dk_at dksX9_init_3 0 rfl rfl)
theorem dX9_init_73 : decode cX9_init 73 = .ok (.bipush 10, 2) := dk_16 10 (dk_at dksX9_init_3 1 rfl rfl)
theorem dX9_init_75 : decode cX9_init 75 = .ok (.bipush 100, 2) := dk_16 100 (dk_at dksX9_init_3 3 rfl rfl)
theorem dX9_init_77 : decode cX9_init 77 = .ok (.iastore, 1) := dk_79 (dk_at dksX9_init_3 5 rfl rfl)
theorem dX9_init_78 : decode cX9_init 78 = .ok (.dup, 1) := dk_89 (dk_at dksX9_init_3 6 rfl rfl)
theorem dX9_init_79 : decode cX9_init 79 = .ok (.bipush 11, 2) := dk_16 11 (dk_at dksX9_init_3 7 rfl rfl)
theorem dX9_init_81 : decode cX9_init 81 = .ok (.bipush 32, 2) := dk_16 32 (dk_at dksX9_init_3 9 rfl rfl)
theorem dX9_init_83 : decode cX9_init 83 = .ok (.iastore, 1) := dk_79 (dk_at dksX9_init_3 11 rfl rfl)
theorem dX9_init_84 : decode cX9_init 84 = .ok (.dup, 1) := dk_89 (dk_at dksX9_init_3 12 rfl rfl)
theorem dX9_init_85 : decode cX9_init 85 = .ok (.bipush 12, 2) := dk_16 12 (dk_at dksX9_init_3 13 rfl rfl)
theorem dX9_init_87 : decode cX9_init 87 = .ok (.bipush 115, 2) := dk_16 115 (dk_at dksX9_init_3 15 rfl rfl)
theorem dX9_init_89 : decode cX9_init 89 = .ok (.iastore, 1) := dk_79 (dk_at dksX9_init_3 17 rfl rfl)
theorem dX9_init_90 : decode cX9_init 90 = .ok (.dup, 1) := dk_89 (dk_at dksX9_init_3 18 rfl rfl)
theorem dX9_init_91 : decode cX9_init 91 = .ok (.bipush 13, 2) := dk_16 13 (dk_at dksX9_init_3 19 rfl rfl)
theorem dX9_init_93 : decode cX9_init 93 = .ok (.bipush 116, 2) := dk_16 116 (dk_at dksX9_init_3 21 rfl rfl)
theorem dX9_init_95 : decode cX9_init 95 = .ok (.iastore, 1) := dk_79 (dk_at dksX9_init_3 23 rfl rfl)
theorem dX9_init_96 : decode cX9_init 96 = .ok (.dup, 1) := dk_89 (dk_at dksX9_init_4 0 rfl rfl)
theorem dX9_init_97 : decode cX9_init 97 = .ok (.bipush 14, 2) := dk_16 14 (dk_at dksX9_init_4 1 rfl rfl)
theorem dX9_init_99 : decode cX9_init 99 = .ok (.bipush 97, 2) := dk_16 97 (dk_at dksX9_init_4 3 rfl rfl)
theorem dX9_init_101 : decode cX9_init 101 = .ok (.iastore, 1) := dk_79 (dk_at dksX9_init_4 5 rfl rfl)
theorem dX9_init_102 : decode cX9_init 102 = .ok (.dup, 1) := dk_89 (dk_at dksX9_init_4 6 rfl rfl)
theorem dX9_init_103 : decode cX9_init 103 = .ok (.bipush 15, 2) := dk_16 15 (dk_at dksX9_init_4 7 rfl rfl)
theorem dX9_init_105 : decode cX9_init 105 = .ok (.bipush 114, 2) := dk_16 114 (dk_at dksX9_init_4 9 rfl rfl)
theorem dX9_init_107 : decode cX9_init 107 = .ok (.iastore, 1) := dk_79 (dk_at dksX9_init_4 11 rfl rfl)
theorem dX9_init_108 : decode cX9_init 108 = .ok (.dup, 1) := dk_89 (dk_at dksX9_init_4 12 rfl rfl)
theorem dX9_init_109 : decode cX9_init 109 = .ok (.bipush 16, 2) := dk_16 16 (dk_at dksX9_init_4 13 rfl rfl)
theorem dX9_init_111 : decode cX9_init 111 = .ok (.bipush 116, 2) := dk_16 116 (dk_at dksX9_init_4 15 rfl rfl)
theorem dX9_init_113 : decode cX9_init 113 = .ok (.iastore, 1) := dk_79 (dk_at dksX9_init_4 17 rfl rfl)
theorem dX9_init_114 : decode cX9_init 114 = .ok (.dup, 1) := dk_89 (dk_at dksX9_init_4 18 rfl rfl)
theorem dX9_init_115 : decode cX9_init 115 = .ok (.bipush 17, 2) := dk_16 17 (dk_at dksX9_init_4 19 rfl rfl)
theorem dX9_init_117 : decode cX9_init 117 = .ok (.bipush 32, 2) := dk_16 32 (dk_at dksX9_init_4 21 rfl rfl)
theorem dX9_init_119 : decode cX9_init 119 = .ok (.iastore, 1) := dk_79 (dk_at dksX9_init_4 23 rfl rfl)
theorem dX9_init_120 : decode cX9_init 120 = .ok (.dup, 1) := dk_89 (dk_at dksX9_init_5 0 rfl rfl)
theorem dX9_init_121 : decode cX9_init 121 = .ok (.bipush 18, 2) := dk_16 18 (dk_at dksX9_init_5 1 rfl rfl)
theorem dX9_init_123 : decode cX9_init 123 = .ok (.bipush 114, 2) := dk_16 114 (dk_at dksX9_init_5 3 rfl rfl)
theorem dX9_init_125 : decode cX9_init 125 = .ok (.iastore, 1) := dk_79 (dk_at dksX9_init_5 5 rfl rfl)
theorem dX9_init_126 : decode cX9_init 126 = .ok (.dup, 1) := dk_89 (dk_at dksX9_init_5 6 rfl rfl)
theorem dX9_init_127 : decode cX9_init 127 = .ok (.bipush 19, 2) := dk_16 19 (dk_at dksX9_init_5 7 rfl rfl)
theorem dX9_init_129 : decode cX9_init 129 = .ok (.bipush 111, 2) := dk_16 111 (dk_at dksX9_init_5 9 rfl rfl)
theorem dX9_init_131 : decode cX9_init 131 = .ok (.iastore, 1) := dk_79 (dk_at dksX9_init_5 11 rfl rfl)
theorem dX9_init_132 : decode cX9_init 132 = .ok (.dup, 1) := dk_89 (dk_at dksX9_init_5 12 rfl rfl)
theorem dX9_init_133 : decode cX9_init 133 = .ok (.bipush 20, 2) := dk_16 20 (dk_at dksX9_init_5 13 rfl rfl)
theorem dX9_init_135 : decode cX9_init 135 = .ok (.bipush 117, 2) := dk_16 117 (dk_at dksX9_init_5 15 rfl rfl)
theorem dX9_init_137 : decode cX9_init 137 = .ok (.iastore, 1) := dk_79 (dk_at dksX9_init_5 17 rfl rfl)
theorem dX9_init_138 : decode cX9_init 138 = .ok (.dup, 1) := dk_89 (dk_at dksX9_init_5 18 rfl rfl)
theorem dX9_init_139 : decode cX9_init 139 = .ok (.bipush 21, 2) := dk_16 21 (dk_at dksX9_init_5 19 rfl rfl)
theorem dX9_init_141 : decode cX9_init 141 = .ok (.bipush 110, 2) := dk_16 110 (dk_at dksX9_init_5 21 rfl rfl)
theorem dX9_init_143 : decode cX9_init 143 = .ok (.iastore, 1) := dk_79 (dk_at dksX9_init_5 23 rfl rfl)
theorem dX9_init_144 : decode cX9_init 144 = .ok (.dup, 1) := dk_89 (dk_at dksX9_init_6 0 rfl rfl)
theorem dX9_init_145 : decode cX9_init 145 = .ok (.bipush 22, 2) := dk_16 22 (dk_at dksX9_init_6 1 rfl rfl)
theorem dX9_init_147 : decode cX9_init 147 = .ok (.bipush 100, 2) := dk_16 100 (dk_at dksX9_init_6 3 rfl rfl)
theorem dX9_init_149 : decode cX9_init 149 = .ok (.iastore, 1) := dk_79 (dk_at dksX9_init_6 5 rfl rfl)
theorem dX9_init_150 : decode cX9_init 150 = .ok (.dup, 1) := dk_89 (dk_at dksX9_init_6 6 rfl rfl)
theorem dX9_init_151 : decode cX9_init 151 = .ok (.bipush 23, 2) := dk_16 23 (dk_at dksX9_init_6 7 rfl rfl)
theorem dX9_init_153 : decode cX9_init 153 = .ok (.bipush 32, 2) := dk_16 32 (dk_at dksX9_init_6 9 rfl rfl)
theorem dX9_init_155 : decode cX9_init 155 = .ok (.iastore, 1) := dk_79 (dk_at dksX9_init_6 11 rfl rfl)
theorem dX9_init_156 : decode cX9_init 156 = .ok (.dup, 1) := dk_89 (dk_at dksX9_init_6 12 rfl rfl)
theorem dX9_init_157 : decode cX9_init 157 = .ok (.bipush 24, 2) := dk_16 24 (dk_at dksX9_init_6 13 rfl rfl)
theorem dX9_init_159 : decode cX9_init 159 = .ok (.bipush 115, 2) := dk_16 115 (dk_at dksX9_init_6 15 rfl rfl)
theorem dX9_init_161 : decode cX9_init 161 = .ok (.iastore, 1) := dk_79 (dk_at dksX9_init_6 17 rfl rfl)
theorem dX9_init_162 : decode cX9_init 162 = .ok (.dup, 1) := dk_89 (dk_at dksX9_init_6 18 rfl rfl)
theorem dX9_init_163 : decode cX9_init 163 = .ok (.bipush 25, 2) := dk_16 25 (dk_at dksX9_init_6 19 rfl rfl)
theorem dX9_init_165 : decode cX9_init 165 = .ok (.bipush 116, 2) := dk_16 116 (dk_at dksX9_init_6 21 rfl rfl)
theorem dX9_init_167 : decode cX9_init 167 = .ok (.iastore, 1) := dk_79 (dk_at dksX9_init_6 23 rfl rfl)
theorem dX9_init_168 : decode cX9_init 168 = .ok (.dup, 1) := dk_89 (dk_at dksX9_init_7 0 rfl rfl)
theorem dX9_init_169 : decode cX9_init 169 = .ok (.bipush 26, 2) := dk_16 26 (dk_at dksX9_init_7 1 rfl rfl)
theorem dX9_init_171 : decode cX9_init 171 = .ok (.bipush 101, 2) := dk_16 101 (dk_at dksX9_init_7 3 rfl rfl)
theorem dX9_init_173 : decode cX9_init 173 = .ok (.iastore, 1) := dk_79 (dk_at dksX9_init_7 5 rfl rfl)
theorem dX9_init_174 : decode cX9_init 174 = .ok (.dup, 1) := dk_89 (dk_at dksX9_init_7 6 rfl rfl)
theorem dX9_init_175 : decode cX9_init 175 = .ok (.bipush 27, 2) := dk_16 27 (dk_at dksX9_init_7 7 rfl rfl)
theorem dX9_init_177 : decode cX9_init 177 = .ok (.bipush 112, 2) := dk_16 112 (dk_at dksX9_init_7 9 rfl rfl)
theorem dX9_init_179 : decode cX9_init 179 = .ok (.iastore, 1) := dk_79 (dk_at dksX9_init_7 11 rfl rfl)
theorem dX9_init_180 : decode cX9_init 180 = .ok (.dup, 1) := dk_89 (dk_at dksX9_init_7 12 rfl rfl)
theorem dX9_init_181 : decode cX9_init 181 = .ok (.bipush 28, 2) := dk_16 28 (dk_at dksX9_init_7 13 rfl rfl)
theorem dX9_init_183 : decode cX9_init 183 = .ok (.bipush 32, 2) := dk_16 32 (dk_at dksX9_init_7 15 rfl rfl)
theorem dX9_init_185 : decode cX9_init 185 = .ok (.iastore, 1) := dk_79 (dk_at dksX9_init_7 17 rfl rfl)
theorem dX9_init_186 : decode cX9_init 186 = .ok (.dup, 1) := dk_89 (dk_at dksX9_init_7 18 rfl rfl)
theorem dX9_init_187 : decode cX9_init 187 = .ok (.bipush 29, 2) := dk_16 29 (dk_at dksX9_init_7 19 rfl rfl)
theorem dX9_init_189 : decode cX9_init 189 = .ok (.bipush 108, 2) := dk_16 108 (dk_at dksX9_init_7 21 rfl rfl)
theorem dX9_init_191 : decode cX9_init 191 = .ok (.iastore, 1) := dk_79 (dk_at dksX9_init_7 23 rfl rfl)
theorem dX9_init_192 : decode cX9_init 192 = .ok (.dup, 1) := dk_89 (dk_at dksX9_init_8 0 rfl rfl)
theorem dX9_init_193 : decode cX9_init 193 = .ok (.bipush 30, 2) := dk_16 30 (dk_at dksX9_init_8 1 rfl rfl)
theorem dX9_init_195 : decode cX9_init 195 = .ok (.bipush 105, 2) := dk_16 105 (dk_at dksX9_init_8 3 rfl rfl)
theorem dX9_init_197 : decode cX9_init 197 = .ok (.iastore, 1) := dk_79 (dk_at dksX9_init_8 5 rfl rfl)
theorem dX9_init_198 : decode cX9_init 198 = .ok (.dup, 1) := dk_89 (dk_at dksX9_init_8 6 rfl rfl)
theorem dX9_init_199 : decode cX9_init 199 = .ok (.bipush 31, 2) := dk_16 31 (dk_at dksX9_init_8 7 rfl rfl)
theorem dX9_init_201 : decode cX9_init 201 = .ok (.bipush 109, 2) := dk_16 109 (dk_at dksX9_init_8 9 rfl rfl)
theorem dX9_init_203 : decode cX9_init 203 = .ok (.iastore, 1) := dk_79 (dk_at dksX9_init_8 11 rfl rfl)
theorem dX9_init_204 : decode cX9_init 204 = .ok (.dup, 1) := dk_89 (dk_at dksX9_init_8 12 rfl rfl)
theorem dX9_init_205 : decode cX9_init 205 = .ok (.bipush 32, 2) := dk_16 32 (dk_at dksX9_init_8 13 rfl rfl)
theorem dX9_init_207 : decode cX9_init 207 = .ok (.bipush 105, 2) := dk_16 105 (dk_at dksX9_init_8 15 rfl rfl)
theorem dX9_init_209 : decode cX9_init 209 = .ok (.iastore, 1) := dk_79 (dk_at dksX9_init_8 17 rfl rfl)
theorem dX9_init_210 : decode cX9_init 210 = .ok (.dup, 1) := dk_89 (dk_at dksX9_init_8 18 rfl rfl)
theorem dX9_init_211 : decode cX9_init 211 = .ok (.bipush 33, 2) := dk_16 33 (dk_at dksX9_init_8 19 rfl rfl)
theorem dX9_init_213 : decode cX9_init 213 = .ok (.bipush 116, 2) := dk_16 116 (dk_at dksX9_init_8 21 rfl rfl)
theorem dX9_init_215 : decode cX9_init 215 = .ok (.iastore, 1) := dk_79 (dk_at dksX9_init_8 23 rfl rfl)
theorem dX9_init_216 : decode cX9_init 216 = .ok (.dup, 1) := dk_89 (dk_at dksX9_init_9 0 rfl rfl)
theorem dX9_init_217 : decode cX9_init 217 = .ok (.bipush 34, 2) := dk_16 34 (dk_at dksX9_init_9 1 rfl rfl)
theorem dX9_init_219 : decode cX9_init 219 = .ok (.bipush 32, 2) := dk_16 32 (dk_at dksX9_init_9 3 rfl rfl)
theorem dX9_init_221 : decode cX9_init 221 = .ok (.iastore, 1) := dk_79 (dk_at dksX9_init_9 5 rfl rfl)
theorem dX9_init_222 : decode cX9_init 222 = .ok (.dup, 1) := dk_89 (dk_at dksX9_init_9 6 rfl rfl)
theorem dX9_init_223 : decode cX9_init 223 = .ok (.bipush 35, 2) := dk_16 35 (dk_at dksX9_init_9 7 rfl rfl)
theorem dX9_init_225 : decode cX9_init 225 = .ok (.bipush 115, 2) := dk_16 115 (dk_at dksX9_init_9 9 rfl rfl)
theorem dX9_init_227 : decode cX9_init 227 = .ok (.iastore, 1) := dk_79 (dk_at dksX9_init_9 11 rfl rfl)
theorem dX9_init_228 : decode cX9_init 228 = .ok (.dup, 1) := dk_89 (dk_at dksX9_init_9 12 rfl rfl)
theorem dX9_init_229 : decode cX9_init 229 = .ok (.bipush 36, 2) := dk_16 36 (dk_at dksX9_init_9 13 rfl rfl)
theorem dX9_init_231 : decode cX9_init 231 = .ok (.bipush 101, 2) := dk_16 101 (dk_at dksX9_init_9 15 rfl rfl)
theorem dX9_init_233 : decode cX9_init 233 = .ok (.iastore, 1) := dk_79 (dk_at dksX9_init_9 17 rfl rfl)
theorem dX9_init_234 : decode cX9_init 234 = .ok (.dup, 1) := dk_89 (dk_at dksX9_init_9 18 rfl rfl)
theorem dX9_init_235 : decode cX9_init 235 = .ok (.bipush 37, 2) := dk_16 37 (dk_at dksX9_init_9 19 rfl rfl)
theorem dX9_init_237 : decode cX9_init 237 = .ok (.bipush 101, 2) := dk_16 101 (dk_at dksX9_init_9 21 rfl rfl)
theorem dX9_init_239 : decode cX9_init 239 = .ok (.iastore, 1) := dk_79 (dk_at dksX9_init_9 23 rfl rfl)
theorem dX9_init_240 : decode cX9_init 240 = .ok (.dup, 1) := dk_89 (dk_at dksX9_init_10 0 rfl rfl)
theorem dX9_init_241 : decode cX9_init 241 = .ok (.bipush 38, 2) := dk_16 38 (dk_at dksX9_init_10 1 rfl rfl)
theorem dX9_init_243 : decode cX9_init 243 = .ok (.bipush 100, 2) := dk_16 100 (dk_at dksX9_init_10 3 rfl rfl)
theorem dX9_init_245 : decode cX9_init 245 = .ok (.iastore, 1) := dk_79 (dk_at dksX9_init_10 5 rfl rfl)
theorem dX9_init_246 : decode cX9_init 246 = .ok (.dup, 1) := dk_89 (dk_at dksX9_init_10 6 rfl rfl)
theorem dX9_init_247 : decode cX9_init 247 = .ok (.bipush 39, 2) := dk_16 39 (dk_at dksX9_init_10 7 rfl rfl)
theorem dX9_init_249 : decode cX9_init 249 = .ok (.bipush 32, 2) := dk_16 32 (dk_at dksX9_init_10 9 rfl rfl)
theorem dX9_init_251 : decode cX9_init 251 = .ok (.iastore, 1) := dk_79 (dk_at dksX9_init_10 11 rfl rfl)
theorem dX9_init_252 : decode cX9_init 252 = .ok (.dup, 1) := dk_89 (dk_at dksX9_init_10 12 rfl rfl)
theorem dX9_init_253 : decode cX9_init 253 = .ok (.bipush 40, 2) := dk_16 40 (dk_at dksX9_init_10 13 rfl rfl)
theorem dX9_init_255 : decode cX9_init 255 = .ok (.bipush 115, 2) := dk_16 115 (dk_at dksX9_init_10 15 rfl rfl)
theorem dX9_init_257 : decode cX9_init 257 = .ok (.iastore, 1) := dk_79 (dk_at dksX9_init_10 17 rfl rfl)
theorem dX9_init_258 : decode cX9_init 258 = .ok (.dup, 1) := dk_89 (dk_at dksX9_init_10 18 rfl rfl)
theorem dX9_init_259 : decode cX9_init 259 = .ok (.bipush 41, 2) := dk_16 41 (dk_at dksX9_init_10 19 rfl rfl)
theorem dX9_init_261 : decode cX9_init 261 = .ok (.bipush 97, 2) := dk_16 97 (dk_at dksX9_init_10 21 rfl rfl)
theorem dX9_init_263 : decode cX9_init 263 = .ok (.iastore, 1) := dk_79 (dk_at dksX9_init_10 23 rfl rfl)
theorem dX9_init_264 : decode cX9_init 264 = .ok (.dup, 1) := dk_89 (dk_at dksX9_init_11 0 rfl rfl)
theorem dX9_init_265 : decode cX9_init 265 = .ok (.bipush 42, 2) := dk_16 42 (dk_at dksX9_init_11 1 rfl rfl)
theorem dX9_init_267 : decode cX9_init 267 = .ok (.bipush 108, 2) := dk_16 108 (dk_at dksX9_init_11 3 rfl rfl)
theorem dX9_init_269 : decode cX9_init 269 = .ok (.iastore, 1) := dk_79 (dk_at dksX9_init_11 5 rfl rfl)
theorem dX9_init_270 : decode cX9_init 270 = .ok (.dup, 1) := dk_89 (dk_at dksX9_init_11 6 rfl rfl)
theorem dX9_init_271 : decode cX9_init 271 = .ok (.bipush 43, 2) := dk_16 43 (dk_at dksX9_init_11 7 rfl rfl)
theorem dX9_init_273 : decode cX9_init 273 = .ok (.bipush 101, 2) := dk_16 101 (dk_at dksX9_init_11 9 rfl rfl)
theorem dX9_init_275 : decode cX9_init 275 = .ok (.iastore, 1) := dk_79 (dk_at dksX9_init_11 11 rfl rfl)
theorem dX9_init_276 : decode cX9_init 276 = .ok (.dup, 1) := dk_89 (dk_at dksX9_init_11 12 rfl rfl)
theorem dX9_init_277 : decode cX9_init 277 = .ok (.bipush 44, 2) := dk_16 44 (dk_at dksX9_init_11 13 rfl rfl)
theorem dX9_init_279 : decode cX9_init 279 = .ok (.bipush 32, 2) := dk_16 32 (dk_at dksX9_init_11 15 rfl rfl)
theorem dX9_init_281 : decode cX9_init 281 = .ok (.iastore, 1) := dk_79 (dk_at dksX9_init_11 17 rfl rfl)
theorem dX9_init_282 : decode cX9_init 282 = .ok (.dup, 1) := dk_89 (dk_at dksX9_init_11 18 rfl rfl)
theorem dX9_init_283 : decode cX9_init 283 = .ok (.bipush 45, 2) := dk_16 45 (dk_at dksX9_init_11 19 rfl rfl)
theorem dX9_init_285 : decode cX9_init 285 = .ok (.bipush 98, 2) := dk_16 98 (dk_at dksX9_init_11 21 rfl rfl)
theorem dX9_init_287 : decode cX9_init 287 = .ok (.iastore, 1) := dk_79 (dk_at dksX9_init_11 23 rfl rfl)
theorem dX9_init_288 : decode cX9_init 288 = .ok (.dup, 1) := dk_89 (dk_at dksX9_init_12 0 rfl rfl)
theorem dX9_init_289 : decode cX9_init 289 = .ok (.bipush 46, 2) := dk_16 46 (dk_at dksX9_init_12 1 rfl rfl)
theorem dX9_init_291 : decode cX9_init 291 = .ok (.bipush 117, 2) := dk_16 117 (dk_at dksX9_init_12 3 rfl rfl)
theorem dX9_init_293 : decode cX9_init 293 = .ok (.iastore, 1) := dk_79 (dk_at dksX9_init_12 5 rfl rfl)
theorem dX9_init_294 : decode cX9_init 294 = .ok (.dup, 1) := dk_89 (dk_at dksX9_init_12 6 rfl rfl)
theorem dX9_init_295 : decode cX9_init 295 = .ok (.bipush 47, 2) := dk_16 47 (dk_at dksX9_init_12 7 rfl rfl)
theorem dX9_init_297 : decode cX9_init 297 = .ok (.bipush 121, 2) := dk_16 121 (dk_at dksX9_init_12 9 rfl rfl)
theorem dX9_init_299 : decode cX9_init 299 = .ok (.iastore, 1) := dk_79 (dk_at dksX9_init_12 11 rfl rfl)
theorem dX9_init_300 : decode cX9_init 300 = .ok (.dup, 1) := dk_89 (dk_at dksX9_init_12 12 rfl rfl)
theorem dX9_init_301 : decode cX9_init 301 = .ok (.bipush 48, 2) := dk_16 48 (dk_at dksX9_init_12 13 rfl rfl)
theorem dX9_init_303 : decode cX9_init 303 = .ok (.bipush 32, 2) := dk_16 32 (dk_at dksX9_init_12 15 rfl rfl)
theorem dX9_init_305 : decode cX9_init 305 = .ok (.iastore, 1) := dk_79 (dk_at dksX9_init_12 17 rfl rfl)
theorem dX9_init_306 : decode cX9_init 306 = .ok (.dup, 1) := dk_89 (dk_at dksX9_init_12 18 rfl rfl)
theorem dX9_init_307 : decode cX9_init 307 = .ok (.bipush 49, 2) := dk_16 49 (dk_at dksX9_init_12 19 rfl rfl)
theorem dX9_init_309 : decode cX9_init 309 = .ok (.bipush 97, 2) := dk_16 97 (dk_at dksX9_init_12 21 rfl rfl)
theorem dX9_init_311 : decode cX9_init 311 = .ok (.iastore, 1) := dk_79 (dk_at dksX9_init_12 23 rfl rfl)
theorem dX9_init_312 : decode cX9_init 312 = .ok (.dup, 1) := dk_89 (dk_at dksX9_init_13 0 rfl rfl)
theorem dX9_init_313 : decode cX9_init 313 = .ok (.bipush 50, 2) := dk_16 50 (dk_at dksX9_init_13 1 rfl rfl)
theorem dX9_init_315 : decode cX9_init 315 = .ok (.bipush 115, 2) := dk_16 115 (dk_at dksX9_init_13 3 rfl rfl)
theorem dX9_init_317 : decode cX9_init 317 = .ok (.iastore, 1) := dk_79 (dk_at dksX9_init_13 5 rfl rfl)
theorem dX9_init_318 : decode cX9_init 318 = .ok (.dup, 1) := dk_89 (dk_at dksX9_init_13 6 rfl rfl)
theorem dX9_init_319 : decode cX9_init 319 = .ok (.bipush 51, 2) := dk_16 51 (dk_at dksX9_init_13 7 rfl rfl)
theorem dX9_init_321 : decode cX9_init 321 = .ok (.bipush 115, 2) := dk_16 115 (dk_at dksX9_init_13 9 rfl rfl)
theorem dX9_init_323 : decode cX9_init 323 = .ok (.iastore, 1) := dk_79 (dk_at dksX9_init_13 11 rfl rfl)
theorem dX9_init_324 : decode cX9_init 324 = .ok (.dup, 1) := dk_89 (dk_at dksX9_init_13 12 rfl rfl)
theorem dX9_init_325 : decode cX9_init 325 = .ok (.bipush 52, 2) := dk_16 52 (dk_at dksX9_init_13 13 rfl rfl)
theorem dX9_init_327 : decode cX9_init 327 = .ok (.bipush 101, 2) := dk_16 101 (dk_at dksX9_init_13 15 rfl rfl)
theorem dX9_init_329 : decode cX9_init 329 = .ok (.iastore, 1) := dk_79 (dk_at dksX9_init_13 17 rfl rfl)
theorem dX9_init_330 : decode cX9_init 330 = .ok (.dup, 1) := dk_89 (dk_at dksX9_init_13 18 rfl rfl)
theorem dX9_init_331 : decode cX9_init 331 = .ok (.bipush 53, 2) := dk_16 53 (dk_at dksX9_init_13 19 rfl rfl)
theorem dX9_init_333 : decode cX9_init 333 = .ok (.bipush 116, 2) := dk_16 116 (dk_at dksX9_init_13 21 rfl rfl)
theorem dX9_init_335 : decode cX9_init 335 = .ok (.iastore, 1) := dk_79 (dk_at dksX9_init_13 23 rfl rfl)
theorem dX9_init_336 : decode cX9_init 336 = .ok (.dup, 1) := dk_89 (dk_at dksX9_init_14 0 rfl rfl)
theorem dX9_init_337 : decode cX9_init 337 = .ok (.bipush 54, 2) := dk_16 54 (dk_at dksX9_init_14 1 rfl rfl)
theorem dX9_init_339 : decode cX9_init 339 = .ok (.bipush 32, 2) := dk_16 32 (dk_at dksX9_init_14 3 rfl rfl)
theorem dX9_init_341 : decode cX9_init 341 = .ok (.iastore, 1) := dk_79 (dk_at dksX9_init_14 5 rfl rfl)
theorem dX9_init_342 : decode cX9_init 342 = .ok (.dup, 1) := dk_89 (dk_at dksX9_init_14 6 rfl rfl)
theorem dX9_init_343 : decode cX9_init 343 = .ok (.bipush 55, 2) := dk_16 55 (dk_at dksX9_init_14 7 rfl rfl)
theorem dX9_init_345 : decode cX9_init 345 = .ok (.bipush 117, 2) := dk_16 117 (dk_at dksX9_init_14 9 rfl rfl)
theorem dX9_init_347 : decode cX9_init 347 = .ok (.iastore, 1) := dk_79 (dk_at dksX9_init_14 11 rfl rfl)
theorem dX9_init_348 : decode cX9_init 348 = .ok (.dup, 1) := dk_89 (dk_at dksX9_init_14 12 rfl rfl)
theorem dX9_init_349 : decode cX9_init 349 = .ok (.bipush 56, 2) := dk_16 56 (dk_at dksX9_init_14 13 rfl rfl)
theorem dX9_init_351 : decode cX9_init 351 = .ok (.bipush 112, 2) := dk_16 112 (dk_at dksX9_init_14 15 rfl rfl)
theorem dX9_init_353 : decode cX9_init 353 = .ok (.iastore, 1) := dk_79 (dk_at dksX9_init_14 17 rfl rfl)
theorem dX9_init_354 : decode cX9_init 354 = .ok (.dup, 1) := dk_89 (dk_at dksX9_init_14 18 rfl rfl)
theorem dX9_init_355 : decode cX9_init 355 = .ok (.bipush 57, 2) := dk_16 57 (dk_at dksX9_init_14 19 rfl rfl)
theorem dX9_init_357 : decode cX9_init 357 = .ok (.bipush 32, 2) := dk_16 32 (dk_at dksX9_init_14 21 rfl rfl)
theorem dX9_init_359 : decode cX9_init 359 = .ok (.iastore, 1) := dk_79 (dk_at dksX9_init_14 23 rfl rfl)
theorem dX9_init_360 : decode cX9_init 360 = .ok (.dup, 1) := dk_89 (dk_at dksX9_init_15 0 rfl rfl)
theorem dX9_init_361 : decode cX9_init 361 = .ok (.bipush 58, 2) := dk_16 58 (dk_at dksX9_init_15 1 rfl rfl)
theorem dX9_init_363 : decode cX9_init 363 = .ok (.bipush 100, 2) := dk_16 100 (dk_at dksX9_init_15 3 rfl rfl)
theorem dX9_init_365 : decode cX9_init 365 = .ok (.iastore, 1) := dk_79 (dk_at dksX9_init_15 5 rfl rfl)
theorem dX9_init_366 : decode cX9_init 366 = .ok (.dup, 1) := dk_89 (dk_at dksX9_init_15 6 rfl rfl)
theorem dX9_init_367 : decode cX9_init 367 = .ok (.bipush 59, 2) := dk_16 59 (dk_at dksX9_init_15 7 rfl rfl)
theorem dX9_init_369 : decode cX9_init 369 = .ok (.bipush 111, 2) := dk_16 111 (dk_at dksX9_init_15 9 rfl rfl)
theorem dX9_init_371 : decode cX9_init 371 = .ok (.iastore, 1) := dk_79 (dk_at dksX9_init_15 11 rfl rfl)
theorem dX9_init_372 : decode cX9_init 372 = .ok (.dup, 1) := dk_89 (dk_at dksX9_init_15 12 rfl rfl)
theorem dX9_init_373 : decode cX9_init 373 = .ok (.bipush 60, 2) := dk_16 60 (dk_at dksX9_init_15 13 rfl rfl)
theorem dX9_init_375 : decode cX9_init 375 = .ok (.bipush 119, 2) := dk_16 119 (dk_at dksX9_init_15 15 rfl rfl)
theorem dX9_init_377 : decode cX9_init 377 = .ok (.iastore, 1) := dk_79 (dk_at dksX9_init_15 17 rfl rfl)
theorem dX9_init_378 : decode cX9_init 378 = .ok (.dup, 1) := dk_89 (dk_at dksX9_init_15 18 rfl rfl)
theorem dX9_init_379 : decode cX9_init 379 = .ok (.bipush 61, 2) := dk_16 61 (dk_at dksX9_init_15 19 rfl rfl)
theorem dX9_init_381 : decode cX9_init 381 = .ok (.bipush 110, 2) := dk_16 110 (dk_at dksX9_init_15 21 rfl rfl)
theorem dX9_init_383 : decode cX9_init 383 = .ok (.iastore, 1) := dk_79 (dk_at dksX9_init_15 23 rfl rfl)
theorem dX9_init_384 : decode cX9_init 384 = .ok (.dup, 1) := dk_89 (dk_at dksX9_init_16 0 rfl rfl)
theorem dX9_init_385 : decode cX9_init 385 = .ok (.bipush 62, 2) := dk_16 62 (dk_at dksX9_init_16 1 rfl rfl)
theorem dX9_init_387 : decode cX9_init 387 = .ok (.bipush 32, 2) := dk_16 32 (dk_at dksX9_init_16 3 rfl rfl)
theorem dX9_init_389 : decode cX9_init 389 = .ok (.iastore, 1) := dk_79 (dk_at dksX9_init_16 5 rfl rfl)
theorem dX9_init_390 : decode cX9_init 390 = .ok (.dup, 1) := dk_89 (dk_at dksX9_init_16 6 rfl rfl)
theorem dX9_init_391 : decode cX9_init 391 = .ok (.bipush 63, 2) := dk_16 63 (dk_at dksX9_init_16 7 rfl rfl)
theorem dX9_init_393 : decode cX9_init 393 = .ok (.bipush 110, 2) := dk_16 110 (dk_at dksX9_init_16 9 rfl rfl)
theorem dX9_init_395 : decode cX9_init 395 = .ok (.iastore, 1) := dk_79 (dk_at dksX9_init_16 11 rfl rfl)
theorem dX9_init_396 : decode cX9_init 396 = .ok (.dup, 1) := dk_89 (dk_at dksX9_init_16 12 rfl rfl)
theorem dX9_init_397 : decode cX9_init 397 = .ok (.bipush 64, 2) := dk_16 64 (dk_at dksX9_init_16 13 rfl rfl)
theorem dX9_init_399 : decode cX9_init 399 = .ok (.bipush 101, 2) := dk_16 101 (dk_at dksX9_init_16 15 rfl rfl)
theorem dX9_init_401 : decode cX9_init 401 = .ok (.iastore, 1) := dk_79 (dk_at dksX9_init_16 17 rfl rfl)
theorem dX9_init_402 : decode cX9_init 402 = .ok (.dup, 1) := dk_89 (dk_at dksX9_init_16 18 rfl rfl)
theorem dX9_init_403 : decode cX9_init 403 = .ok (.bipush 65, 2) := dk_16 65 (dk_at dksX9_init_16 19 rfl rfl)
theorem dX9_init_405 : decode cX9_init 405 = .ok (.bipush 97, 2) := dk_16 97 (dk_at dksX9_init_16 21 rfl rfl)
theorem dX9_init_407 : decode cX9_init 407 = .ok (.iastore, 1) := dk_79 (dk_at dksX9_init_16 23 rfl rfl)
theorem dX9_init_408 : decode cX9_init 408 = .ok (.dup, 1) := dk_89 (dk_at dksX9_init_17 0 rfl rfl)
theorem dX9_init_409 : decode cX9_init 409 = .ok (.bipush 66, 2) := dk_16 66 (dk_at dksX9_init_17 1 rfl rfl)
theorem dX9_init_411 : decode cX9_init 411 = .ok (.bipush 114, 2) := dk_16 114 (dk_at dksX9_init_17 3 rfl rfl)
theorem dX9_init_413 : decode cX9_init 413 = .ok (.iastore, 1) := dk_79 (dk_at dksX9_init_17 5 rfl rfl)
theorem dX9_init_414 : decode cX9_init 414 = .ok (.dup, 1) := dk_89 (dk_at dksX9_init_17 6 rfl rfl)
theorem dX9_init_415 : decode cX9_init 415 = .ok (.bipush 67, 2) := dk_16 67 (dk_at dksX9_init_17 7 rfl rfl)
theorem dX9_init_417 : decode cX9_init 417 = .ok (.bipush 32, 2) := dk_16 32 (dk_at dksX9_init_17 9 rfl rfl)
theorem dX9_init_419 : decode cX9_init 419 = .ok (.iastore, 1) := dk_79 (dk_at dksX9_init_17 11 rfl rfl)
theorem dX9_init_420 : decode cX9_init 420 = .ok (.putfield 13, 3) := dk_181 0 13 (dk_at dksX9_init_17 12 rfl rfl)
theorem dX9_init_423 : decode cX9_init 423 = .ok (.aload_n 0, 1) := dk_42 (dk_at dksX9_init_17 15 rfl rfl)
theorem dX9_init_424 : decode cX9_init 424 = .ok (.iconst (-1), 1) := dk_2 (dk_at dksX9_init_17 16 rfl rfl)
theorem dX9_init_425 : decode cX9_init 425 = .ok (.putfield 16, 3) := dk_181 0 16 (dk_at dksX9_init_17 17 rfl rfl)
theorem dX9_init_428 : decode cX9_init 428 = .ok (.aload_n 0, 1) := dk_42 (dk_at dksX9_init_17 20 rfl rfl)
theorem dX9_init_429 : decode cX9_init 429 = .ok (.bipush 64, 2) := dk_16 64 (dk_at dksX9_init_17 21 rfl rfl)
theorem dX9_init_431 : decode cX9_init 431 = .ok (.newarray .int, 2) := dk_188_10 (dk_at dksX9_init_18 0 rfl rfl)
theorem dX9_init_433 : decode cX9_init 433 = .ok (.putfield 20, 3) := dk_181 0 20 (dk_at dksX9_init_18 2 rfl rfl)
theorem dX9_init_436 : decode cX9_init 436 = .ok (.aload_n 0, 1) := dk_42 (dk_at dksX9_init_18 5 rfl rfl)
theorem dX9_init_437 : decode cX9_init 437 = .ok (.bipush 96, 2) := dk_16 96 (dk_at dksX9_init_18 6 rfl rfl)
theorem dX9_init_439 : decode cX9_init 439 = .ok (.newarray .int, 2) := dk_188_10 (dk_at dksX9_init_18 8 rfl rfl)
theorem dX9_init_441 : decode cX9_init 441 = .ok (.putfield 23, 3) := dk_181 0 23 (dk_at dksX9_init_18 10 rfl rfl)
theorem dX9_init_444 : decode cX9_init 444 = .ok (.aload_n 0, 1) := dk_42 (dk_at dksX9_init_18 13 rfl rfl)
theorem dX9_init_445 : decode cX9_init 445 = .ok (.bipush 96, 2) := dk_16 96 (dk_at dksX9_init_18 14 rfl rfl)
theorem dX9_init_447 : decode cX9_init 447 = .ok (.newarray .int, 2) := dk_188_10 (dk_at dksX9_init_18 16 rfl rfl)
theorem dX9_init_449 : decode cX9_init 449 = .ok (.putfield 26, 3) := dk_181 0 26 (dk_at dksX9_init_18 18 rfl rfl)
theorem dX9_init_452 : decode cX9_init 452 = .ok (.aload_n 0, 1) := dk_42 (dk_at dksX9_init_18 21 rfl rfl)
theorem dX9_init_453 : decode cX9_init 453 = .ok (.bipush 40, 2) := dk_16 40 (dk_at dksX9_init_18 22 rfl rfl)
theorem dX9_init_455 : decode cX9_init 455 = .ok (.newarray .int, 2) := dk_188_10 (dk_at dksX9_init_19 0 rfl rfl)
theorem dX9_init_457 : decode cX9_init 457 = .ok (.putfield 29, 3) := dk_181 0 29 (dk_at dksX9_init_19 2 rfl rfl)
theorem dX9_init_460 : decode cX9_init 460 = .ok (.aload_n 0, 1) := dk_42 (dk_at dksX9_init_19 5 rfl rfl)
theorem dX9_init_461 : decode cX9_init 461 = .ok (.bipush 14, 2) := dk_16 14 (dk_at dksX9_init_19 6 rfl rfl)
theorem dX9_init_463 : decode cX9_init 463 = .ok (.newarray .int, 2) := dk_188_10 (dk_at dksX9_init_19 8 rfl rfl)
theorem dX9_init_465 : decode cX9_init 465 = .ok (.putfield 32, 3) := dk_181 0 32 (dk_at dksX9_init_19 10 rfl rfl)
theorem dX9_init_468 : decode cX9_init 468 = .ok (.aload_n 0, 1) := dk_42 (dk_at dksX9_init_19 13 rfl rfl)
theorem dX9_init_469 : decode cX9_init 469 = .ok (.ldc 35, 2) := dk_18 35 (dk_at dksX9_init_19 14 rfl rfl)
theorem dX9_init_471 : decode cX9_init 471 = .ok (.newarray .int, 2) := dk_188_10 (dk_at dksX9_init_19 16 rfl rfl)
theorem dX9_init_473 : decode cX9_init 473 = .ok (.putfield 36, 3) := dk_181 0 36 (dk_at dksX9_init_19 18 rfl rfl)
theorem dX9_init_476 : decode cX9_init 476 = .ok (.aload_n 0, 1) := dk_42 (dk_at dksX9_init_19 21 rfl rfl)
theorem dX9_init_477 : decode cX9_init 477 = .ok (.iconst 5, 1) := dk_8 (dk_at dksX9_init_19 22 rfl rfl)
theorem dX9_init_478 : decode cX9_init 478 = .ok (.newarray .long, 2) := dk_188_11 (dk_at dksX9_init_20 0 rfl rfl)
theorem dX9_init_480 : decode cX9_init 480 = .ok (.putfield 39, 3) := dk_181 0 39 (dk_at dksX9_init_20 2 rfl rfl)
theorem dX9_init_483 : decode cX9_init 483 = .ok (.aload_n 0, 1) := dk_42 (dk_at dksX9_init_20 5 rfl rfl)
theorem dX9_init_484 : decode cX9_init 484 = .ok (.invokevirtual 43, 3) := dk_182 0 43 (dk_at dksX9_init_20 6 rfl rfl)
theorem dX9_init_487 : decode cX9_init 487 = .ok (.aload_n 0, 1) := dk_42 (dk_at dksX9_init_20 9 rfl rfl)
theorem dX9_init_488 : decode cX9_init 488 = .ok (.invokevirtual 46, 3) := dk_182 0 46 (dk_at dksX9_init_20 10 rfl rfl)
theorem dX9_init_491 : decode cX9_init 491 = .ok (.return_, 1) := dk_177 (dk_at dksX9_init_20 13 rfl rfl)
abbrev cX9_plain : ByteArray := prog_17_method_11_code
def yX9_plain : MethodName := ⟨RX9, "plain", "()V"⟩
def dkwX9_plain_1 : List UInt8 := [167, 255, 240, 42, 180, 0, 32, 16, 8, 16, 100, 79, 42, 3, 181, 0, 91, 177]
abbrev dktX9_plain_1 : List UInt8 := dkwX9_plain_1 ++ []
def dkwX9_plain_0 : List UInt8 := [42, 3, 181, 0, 88, 16, 7, 60, 27, 16, 14, 162, 0, 16, 42, 180, 0, 32, 27, 3, 79, 132, 1, 1]
abbrev dktX9_plain_0 : List UInt8 := dkwX9_plain_0 ++ dktX9_plain_1
theorem dksX9_plain_0 : cX9_plain.data.toList.drop 0 = dktX9_plain_0 := by decide +kernel
theorem dksX9_plain_1 : cX9_plain.data.toList.drop 24 = dktX9_plain_1 := dk_seg dksX9_plain_0 24 rfl rfl
theorem dX9_plain_0 : decode cX9_plain 0 = .ok (.aload_n 0, 1) := dk_42 (dk_at dksX9_plain_0 0 rfl rfl)
theorem dX9_plain_1 : decode cX9_plain 1 = .ok (.iconst 0, 1) := dk_3 (dk_at dksX9_plain_0 1 rfl rfl)
theorem dX9_plain_2 : decode cX9_plain 2 = .ok (.putfield 88, 3) := dk_181 0 88 (dk_at dksX9_plain_0 2 rfl rfl)
theorem dX9_plain_5 : decode cX9_plain 5 = .ok (.bipush 7, 2) := dk_16 7 (dk_at dksX9_plain_0 5 rfl rfl)
theorem dX9_plain_7 : decode cX9_plain 7 = .ok (.istore_n 1, 1) := dk_60 (dk_at dksX9_plain_0 7 rfl rfl)
theorem dX9_plain_8 : decode cX9_plain 8 = .ok (.iload_n 1, 1) := dk_27 (dk_at dksX9_plain_0 8 rfl rfl)
theorem dX9_plain_9 : decode cX9_plain 9 = .ok (.bipush 14, 2) := dk_16 14 (dk_at dksX9_plain_0 9 rfl rfl)
theorem dX9_plain_11 : decode cX9_plain 11 = .ok (.if_icmp .ge 16, 3) := dk_162 0 16 (dk_at dksX9_plain_0 11 rfl rfl)
theorem dX9_plain_14 : decode cX9_plain 14 = .ok (.aload_n 0, 1) := dk_42 (dk_at dksX9_plain_0 14 rfl rfl)
theorem dX9_plain_15 : decode cX9_plain 15 = .ok (.getfield 32, 3) := dk_180 0 32 (dk_at dksX9_plain_0 15 rfl rfl)
theorem dX9_plain_18 : decode cX9_plain 18 = .ok (.iload_n 1, 1) := dk_27 (dk_at dksX9_plain_0 18 rfl rfl)
theorem dX9_plain_19 : decode cX9_plain 19 = .ok (.iconst 0, 1) := dk_3 (dk_at dksX9_plain_0 19 rfl rfl)
theorem dX9_plain_20 : decode cX9_plain 20 = .ok (.iastore, 1) := dk_79 (dk_at dksX9_plain_0 20 rfl rfl)
theorem dX9_plain_21 : decode cX9_plain 21 = .ok (.iinc 1 1, 3) := dk_132 1 1 (dk_at dksX9_plain_0 21 rfl rfl)
theorem dX9_plain_24 : decode cX9_plain 24 = .ok (.goto (-16), 3) := dk_167 255 240 (dk_at dksX9_plain_1 0 rfl rfl)
theorem dX9_plain_27 : decode cX9_plain 27 = .ok (.aload_n 0, 1) := dk_42 (dk_at dksX9_plain_1 3 rfl rfl)
theorem dX9_plain_28 : decode cX9_plain 28 = .ok (.getfield 32, 3) := dk_180 0 32 (dk_at dksX9_plain_1 4 rfl rfl)
theorem dX9_plain_31 : decode cX9_plain 31 = .ok (.bipush 8, 2) := dk_16 8 (dk_at dksX9_plain_1 7 rfl rfl)
theorem dX9_plain_33 : decode cX9_plain 33 = .ok (.bipush 100, 2) := dk_16 100 (dk_at dksX9_plain_1 9 rfl rfl)
theorem dX9_plain_35 : decode cX9_plain 35 = .ok (.iastore, 1) := dk_79 (dk_at dksX9_plain_1 11 rfl rfl)
theorem dX9_plain_36 : decode cX9_plain 36 = .ok (.aload_n 0, 1) := dk_42 (dk_at dksX9_plain_1 12 rfl rfl)
theorem dX9_plain_37 : decode cX9_plain 37 = .ok (.iconst 0, 1) := dk_3 (dk_at dksX9_plain_1 13 rfl rfl)
theorem dX9_plain_38 : decode cX9_plain 38 = .ok (.putfield 91, 3) := dk_181 0 91 (dk_at dksX9_plain_1 14 rfl rfl)
theorem dX9_plain_41 : decode cX9_plain 41 = .ok (.return_, 1) := dk_177 (dk_at dksX9_plain_1 17 rfl rfl)
abbrev cX9_keepText : ByteArray := prog_17_method_13_code
def yX9_keepText : MethodName := ⟨RX9, "keepText", "()V"⟩
def dkwX9_keepText_6 : List UInt8 := [42, 182, 0, 118, 177]
abbrev dktX9_keepText_6 : List UInt8 := dkwX9_keepText_6 ++ []
def dkwX9_keepText_5 : List UInt8 := [17, 5, 1, 5, 27, 104, 96, 4, 96, 42, 27, 8, 182, 0, 115, 182, 0, 111, 132, 1, 1, 167, 255, 209]
abbrev dktX9_keepText_5 : List UInt8 := dkwX9_keepText_5 ++ dktX9_keepText_6
def dkwX9_keepText_4 : List UInt8 := [180, 0, 94, 162, 0, 45, 42, 17, 5, 1, 5, 27, 104, 96, 42, 27, 7, 182, 0, 115, 182, 0, 111, 42]
abbrev dktX9_keepText_4 : List UInt8 := dkwX9_keepText_4 ++ dktX9_keepText_5
def dkwX9_keepText_3 : List UInt8 := [60, 27, 17, 9, 164, 162, 0, 15, 42, 27, 3, 182, 0, 111, 132, 1, 1, 167, 255, 240, 3, 60, 27, 42]
abbrev dktX9_keepText_3 : List UInt8 := dkwX9_keepText_3 ++ dktX9_keepText_4
def dkwX9_keepText_2 : List UInt8 := [180, 0, 32, 16, 7, 184, 0, 97, 42, 3, 181, 0, 101, 42, 3, 181, 0, 104, 42, 3, 181, 0, 107, 3]
abbrev dktX9_keepText_2 : List UInt8 := dkwX9_keepText_2 ++ dktX9_keepText_3
def dkwX9_keepText_1 : List UInt8 := [184, 0, 97, 42, 180, 0, 26, 16, 48, 184, 0, 97, 42, 180, 0, 29, 16, 20, 184, 0, 97, 42]
abbrev dktX9_keepText_1 : List UInt8 := dkwX9_keepText_1 ++ dktX9_keepText_2
def dkwX9_keepText_0 : List UInt8 := [42, 42, 180, 0, 88, 181, 0, 94, 42, 180, 0, 20, 16, 32, 184, 0, 97, 42, 180, 0, 23, 16, 48]
abbrev dktX9_keepText_0 : List UInt8 := dkwX9_keepText_0 ++ dktX9_keepText_1
theorem dksX9_keepText_0 : cX9_keepText.data.toList.drop 0 = dktX9_keepText_0 := by decide +kernel
theorem dksX9_keepText_1 : cX9_keepText.data.toList.drop 23 = dktX9_keepText_1 := dk_seg dksX9_keepText_0 23 rfl rfl
theorem dksX9_keepText_2 : cX9_keepText.data.toList.drop 45 = dktX9_keepText_2 := dk_seg dksX9_keepText_1 22 rfl rfl
theorem dksX9_keepText_3 : cX9_keepText.data.toList.drop 69 = dktX9_keepText_3 := dk_seg dksX9_keepText_2 24 rfl rfl
theorem dksX9_keepText_4 : cX9_keepText.data.toList.drop 93 = dktX9_keepText_4 := dk_seg dksX9_keepText_3 24 rfl rfl
theorem dksX9_keepText_5 : cX9_keepText.data.toList.drop 117 = dktX9_keepText_5 := dk_seg dksX9_keepText_4 24 rfl rfl
theorem dksX9_keepText_6 : cX9_keepText.data.toList.drop 141 = dktX9_keepText_6 := dk_seg dksX9_keepText_5 24 rfl rfl
theorem dX9_keepText_0 : decode cX9_keepText 0 = .ok (.aload_n 0, 1) := dk_42 (dk_at dksX9_keepText_0 0 rfl rfl)
theorem dX9_keepText_1 : decode cX9_keepText 1 = .ok (.aload_n 0, 1) := dk_42 (dk_at dksX9_keepText_0 1 rfl rfl)
theorem dX9_keepText_2 : decode cX9_keepText 2 = .ok (.getfield 88, 3) := dk_180 0 88 (dk_at dksX9_keepText_0 2 rfl rfl)
theorem dX9_keepText_5 : decode cX9_keepText 5 = .ok (.putfield 94, 3) := dk_181 0 94 (dk_at dksX9_keepText_0 5 rfl rfl)
theorem dX9_keepText_8 : decode cX9_keepText 8 = .ok (.aload_n 0, 1) := dk_42 (dk_at dksX9_keepText_0 8 rfl rfl)
theorem dX9_keepText_9 : decode cX9_keepText 9 = .ok (.getfield 20, 3) := dk_180 0 20 (dk_at dksX9_keepText_0 9 rfl rfl)
theorem dX9_keepText_12 : decode cX9_keepText 12 = .ok (.bipush 32, 2) := dk_16 32 (dk_at dksX9_keepText_0 12 rfl rfl)
theorem dX9_keepText_14 : decode cX9_keepText 14 = .ok (.invokestatic 97, 3) := dk_184 0 97 (dk_at dksX9_keepText_0 14 rfl rfl)
theorem dX9_keepText_17 : decode cX9_keepText 17 = .ok (.aload_n 0, 1) := dk_42 (dk_at dksX9_keepText_0 17 rfl rfl)
theorem dX9_keepText_18 : decode cX9_keepText 18 = .ok (.getfield 23, 3) := dk_180 0 23 (dk_at dksX9_keepText_0 18 rfl rfl)
theorem dX9_keepText_21 : decode cX9_keepText 21 = .ok (.bipush 48, 2) := dk_16 48 (dk_at dksX9_keepText_0 21 rfl rfl)
theorem dX9_keepText_23 : decode cX9_keepText 23 = .ok (.invokestatic 97, 3) := dk_184 0 97 (dk_at dksX9_keepText_1 0 rfl rfl)
theorem dX9_keepText_26 : decode cX9_keepText 26 = .ok (.aload_n 0, 1) := dk_42 (dk_at dksX9_keepText_1 3 rfl rfl)
theorem dX9_keepText_27 : decode cX9_keepText 27 = .ok (.getfield 26, 3) := dk_180 0 26 (dk_at dksX9_keepText_1 4 rfl rfl)
theorem dX9_keepText_30 : decode cX9_keepText 30 = .ok (.bipush 48, 2) := dk_16 48 (dk_at dksX9_keepText_1 7 rfl rfl)
theorem dX9_keepText_32 : decode cX9_keepText 32 = .ok (.invokestatic 97, 3) := dk_184 0 97 (dk_at dksX9_keepText_1 9 rfl rfl)
theorem dX9_keepText_35 : decode cX9_keepText 35 = .ok (.aload_n 0, 1) := dk_42 (dk_at dksX9_keepText_1 12 rfl rfl)
theorem dX9_keepText_36 : decode cX9_keepText 36 = .ok (.getfield 29, 3) := dk_180 0 29 (dk_at dksX9_keepText_1 13 rfl rfl)
theorem dX9_keepText_39 : decode cX9_keepText 39 = .ok (.bipush 20, 2) := dk_16 20 (dk_at dksX9_keepText_1 16 rfl rfl)
theorem dX9_keepText_41 : decode cX9_keepText 41 = .ok (.invokestatic 97, 3) := dk_184 0 97 (dk_at dksX9_keepText_1 18 rfl rfl)
theorem dX9_keepText_44 : decode cX9_keepText 44 = .ok (.aload_n 0, 1) := dk_42 (dk_at dksX9_keepText_1 21 rfl rfl)
theorem dX9_keepText_45 : decode cX9_keepText 45 = .ok (.getfield 32, 3) := dk_180 0 32 (dk_at dksX9_keepText_2 0 rfl rfl)
theorem dX9_keepText_48 : decode cX9_keepText 48 = .ok (.bipush 7, 2) := dk_16 7 (dk_at dksX9_keepText_2 3 rfl rfl)
theorem dX9_keepText_50 : decode cX9_keepText 50 = .ok (.invokestatic 97, 3) := dk_184 0 97 (dk_at dksX9_keepText_2 5 rfl rfl)
theorem dX9_keepText_53 : decode cX9_keepText 53 = .ok (.aload_n 0, 1) := dk_42 (dk_at dksX9_keepText_2 8 rfl rfl)
theorem dX9_keepText_54 : decode cX9_keepText 54 = .ok (.iconst 0, 1) := dk_3 (dk_at dksX9_keepText_2 9 rfl rfl)
theorem dX9_keepText_55 : decode cX9_keepText 55 = .ok (.putfield 101, 3) := dk_181 0 101 (dk_at dksX9_keepText_2 10 rfl rfl)
theorem dX9_keepText_58 : decode cX9_keepText 58 = .ok (.aload_n 0, 1) := dk_42 (dk_at dksX9_keepText_2 13 rfl rfl)
theorem dX9_keepText_59 : decode cX9_keepText 59 = .ok (.iconst 0, 1) := dk_3 (dk_at dksX9_keepText_2 14 rfl rfl)
theorem dX9_keepText_60 : decode cX9_keepText 60 = .ok (.putfield 104, 3) := dk_181 0 104 (dk_at dksX9_keepText_2 15 rfl rfl)
theorem dX9_keepText_63 : decode cX9_keepText 63 = .ok (.aload_n 0, 1) := dk_42 (dk_at dksX9_keepText_2 18 rfl rfl)
theorem dX9_keepText_64 : decode cX9_keepText 64 = .ok (.iconst 0, 1) := dk_3 (dk_at dksX9_keepText_2 19 rfl rfl)
theorem dX9_keepText_65 : decode cX9_keepText 65 = .ok (.putfield 107, 3) := dk_181 0 107 (dk_at dksX9_keepText_2 20 rfl rfl)
theorem dX9_keepText_68 : decode cX9_keepText 68 = .ok (.iconst 0, 1) := dk_3 (dk_at dksX9_keepText_2 23 rfl rfl)
theorem dX9_keepText_69 : decode cX9_keepText 69 = .ok (.istore_n 1, 1) := dk_60 (dk_at dksX9_keepText_3 0 rfl rfl)
theorem dX9_keepText_70 : decode cX9_keepText 70 = .ok (.iload_n 1, 1) := dk_27 (dk_at dksX9_keepText_3 1 rfl rfl)
theorem dX9_keepText_71 : decode cX9_keepText 71 = .ok (.sipush 2468, 3) := dk_17 9 164 (dk_at dksX9_keepText_3 2 rfl rfl)
theorem dX9_keepText_74 : decode cX9_keepText 74 = .ok (.if_icmp .ge 15, 3) := dk_162 0 15 (dk_at dksX9_keepText_3 5 rfl rfl)
theorem dX9_keepText_77 : decode cX9_keepText 77 = .ok (.aload_n 0, 1) := dk_42 (dk_at dksX9_keepText_3 8 rfl rfl)
theorem dX9_keepText_78 : decode cX9_keepText 78 = .ok (.iload_n 1, 1) := dk_27 (dk_at dksX9_keepText_3 9 rfl rfl)
theorem dX9_keepText_79 : decode cX9_keepText 79 = .ok (.iconst 0, 1) := dk_3 (dk_at dksX9_keepText_3 10 rfl rfl)
theorem dX9_keepText_80 : decode cX9_keepText 80 = .ok (.invokevirtual 111, 3) := dk_182 0 111 (dk_at dksX9_keepText_3 11 rfl rfl)
theorem dX9_keepText_83 : decode cX9_keepText 83 = .ok (.iinc 1 1, 3) := dk_132 1 1 (dk_at dksX9_keepText_3 14 rfl rfl)
theorem dX9_keepText_86 : decode cX9_keepText 86 = .ok (.goto (-16), 3) := dk_167 255 240 (dk_at dksX9_keepText_3 17 rfl rfl)
theorem dX9_keepText_89 : decode cX9_keepText 89 = .ok (.iconst 0, 1) := dk_3 (dk_at dksX9_keepText_3 20 rfl rfl)
theorem dX9_keepText_90 : decode cX9_keepText 90 = .ok (.istore_n 1, 1) := dk_60 (dk_at dksX9_keepText_3 21 rfl rfl)
theorem dX9_keepText_91 : decode cX9_keepText 91 = .ok (.iload_n 1, 1) := dk_27 (dk_at dksX9_keepText_3 22 rfl rfl)
theorem dX9_keepText_92 : decode cX9_keepText 92 = .ok (.aload_n 0, 1) := dk_42 (dk_at dksX9_keepText_3 23 rfl rfl)
theorem dX9_keepText_93 : decode cX9_keepText 93 = .ok (.getfield 94, 3) := dk_180 0 94 (dk_at dksX9_keepText_4 0 rfl rfl)
theorem dX9_keepText_96 : decode cX9_keepText 96 = .ok (.if_icmp .ge 45, 3) := dk_162 0 45 (dk_at dksX9_keepText_4 3 rfl rfl)
theorem dX9_keepText_99 : decode cX9_keepText 99 = .ok (.aload_n 0, 1) := dk_42 (dk_at dksX9_keepText_4 6 rfl rfl)
theorem dX9_keepText_100 : decode cX9_keepText 100 = .ok (.sipush 1281, 3) := dk_17 5 1 (dk_at dksX9_keepText_4 7 rfl rfl)
theorem dX9_keepText_103 : decode cX9_keepText 103 = .ok (.iconst 2, 1) := dk_5 (dk_at dksX9_keepText_4 10 rfl rfl)
theorem dX9_keepText_104 : decode cX9_keepText 104 = .ok (.iload_n 1, 1) := dk_27 (dk_at dksX9_keepText_4 11 rfl rfl)
theorem dX9_keepText_105 : decode cX9_keepText 105 = .ok (.imul, 1) := dk_104 (dk_at dksX9_keepText_4 12 rfl rfl)
theorem dX9_keepText_106 : decode cX9_keepText 106 = .ok (.iadd, 1) := dk_96 (dk_at dksX9_keepText_4 13 rfl rfl)
theorem dX9_keepText_107 : decode cX9_keepText 107 = .ok (.aload_n 0, 1) := dk_42 (dk_at dksX9_keepText_4 14 rfl rfl)
theorem dX9_keepText_108 : decode cX9_keepText 108 = .ok (.iload_n 1, 1) := dk_27 (dk_at dksX9_keepText_4 15 rfl rfl)
theorem dX9_keepText_109 : decode cX9_keepText 109 = .ok (.iconst 4, 1) := dk_7 (dk_at dksX9_keepText_4 16 rfl rfl)
theorem dX9_keepText_110 : decode cX9_keepText 110 = .ok (.invokevirtual 115, 3) := dk_182 0 115 (dk_at dksX9_keepText_4 17 rfl rfl)
theorem dX9_keepText_113 : decode cX9_keepText 113 = .ok (.invokevirtual 111, 3) := dk_182 0 111 (dk_at dksX9_keepText_4 20 rfl rfl)
theorem dX9_keepText_116 : decode cX9_keepText 116 = .ok (.aload_n 0, 1) := dk_42 (dk_at dksX9_keepText_4 23 rfl rfl)
theorem dX9_keepText_117 : decode cX9_keepText 117 = .ok (.sipush 1281, 3) := dk_17 5 1 (dk_at dksX9_keepText_5 0 rfl rfl)
theorem dX9_keepText_120 : decode cX9_keepText 120 = .ok (.iconst 2, 1) := dk_5 (dk_at dksX9_keepText_5 3 rfl rfl)
theorem dX9_keepText_121 : decode cX9_keepText 121 = .ok (.iload_n 1, 1) := dk_27 (dk_at dksX9_keepText_5 4 rfl rfl)
theorem dX9_keepText_122 : decode cX9_keepText 122 = .ok (.imul, 1) := dk_104 (dk_at dksX9_keepText_5 5 rfl rfl)
theorem dX9_keepText_123 : decode cX9_keepText 123 = .ok (.iadd, 1) := dk_96 (dk_at dksX9_keepText_5 6 rfl rfl)
theorem dX9_keepText_124 : decode cX9_keepText 124 = .ok (.iconst 1, 1) := dk_4 (dk_at dksX9_keepText_5 7 rfl rfl)
theorem dX9_keepText_125 : decode cX9_keepText 125 = .ok (.iadd, 1) := dk_96 (dk_at dksX9_keepText_5 8 rfl rfl)
theorem dX9_keepText_126 : decode cX9_keepText 126 = .ok (.aload_n 0, 1) := dk_42 (dk_at dksX9_keepText_5 9 rfl rfl)
theorem dX9_keepText_127 : decode cX9_keepText 127 = .ok (.iload_n 1, 1) := dk_27 (dk_at dksX9_keepText_5 10 rfl rfl)
theorem dX9_keepText_128 : decode cX9_keepText 128 = .ok (.iconst 5, 1) := dk_8 (dk_at dksX9_keepText_5 11 rfl rfl)
theorem dX9_keepText_129 : decode cX9_keepText 129 = .ok (.invokevirtual 115, 3) := dk_182 0 115 (dk_at dksX9_keepText_5 12 rfl rfl)
theorem dX9_keepText_132 : decode cX9_keepText 132 = .ok (.invokevirtual 111, 3) := dk_182 0 111 (dk_at dksX9_keepText_5 15 rfl rfl)
theorem dX9_keepText_135 : decode cX9_keepText 135 = .ok (.iinc 1 1, 3) := dk_132 1 1 (dk_at dksX9_keepText_5 18 rfl rfl)
theorem dX9_keepText_138 : decode cX9_keepText 138 = .ok (.goto (-47), 3) := dk_167 255 209 (dk_at dksX9_keepText_5 21 rfl rfl)
theorem dX9_keepText_141 : decode cX9_keepText 141 = .ok (.aload_n 0, 1) := dk_42 (dk_at dksX9_keepText_6 0 rfl rfl)
theorem dX9_keepText_142 : decode cX9_keepText 142 = .ok (.invokevirtual 118, 3) := dk_182 0 118 (dk_at dksX9_keepText_6 1 rfl rfl)
theorem dX9_keepText_145 : decode cX9_keepText 145 = .ok (.return_, 1) := dk_177 (dk_at dksX9_keepText_6 4 rfl rfl)
abbrev cX9_copies : ByteArray := prog_17_method_12_code
def yX9_copies : MethodName := ⟨RX9, "copies", "([II)V"⟩
def dkwX9_copies_0 : List UInt8 := [3, 61, 28, 27, 162, 0, 17, 42, 28, 42, 27, 28, 96, 46, 79, 132, 2, 1, 167, 255, 240, 177]
abbrev dktX9_copies_0 : List UInt8 := dkwX9_copies_0 ++ []
theorem dksX9_copies_0 : cX9_copies.data.toList.drop 0 = dktX9_copies_0 := by decide +kernel
theorem dX9_copies_0 : decode cX9_copies 0 = .ok (.iconst 0, 1) := dk_3 (dk_at dksX9_copies_0 0 rfl rfl)
theorem dX9_copies_1 : decode cX9_copies 1 = .ok (.istore_n 2, 1) := dk_61 (dk_at dksX9_copies_0 1 rfl rfl)
theorem dX9_copies_2 : decode cX9_copies 2 = .ok (.iload_n 2, 1) := dk_28 (dk_at dksX9_copies_0 2 rfl rfl)
theorem dX9_copies_3 : decode cX9_copies 3 = .ok (.iload_n 1, 1) := dk_27 (dk_at dksX9_copies_0 3 rfl rfl)
theorem dX9_copies_4 : decode cX9_copies 4 = .ok (.if_icmp .ge 17, 3) := dk_162 0 17 (dk_at dksX9_copies_0 4 rfl rfl)
theorem dX9_copies_7 : decode cX9_copies 7 = .ok (.aload_n 0, 1) := dk_42 (dk_at dksX9_copies_0 7 rfl rfl)
theorem dX9_copies_8 : decode cX9_copies 8 = .ok (.iload_n 2, 1) := dk_28 (dk_at dksX9_copies_0 8 rfl rfl)
theorem dX9_copies_9 : decode cX9_copies 9 = .ok (.aload_n 0, 1) := dk_42 (dk_at dksX9_copies_0 9 rfl rfl)
theorem dX9_copies_10 : decode cX9_copies 10 = .ok (.iload_n 1, 1) := dk_27 (dk_at dksX9_copies_0 10 rfl rfl)
theorem dX9_copies_11 : decode cX9_copies 11 = .ok (.iload_n 2, 1) := dk_28 (dk_at dksX9_copies_0 11 rfl rfl)
theorem dX9_copies_12 : decode cX9_copies 12 = .ok (.iadd, 1) := dk_96 (dk_at dksX9_copies_0 12 rfl rfl)
theorem dX9_copies_13 : decode cX9_copies 13 = .ok (.iaload, 1) := dk_46 (dk_at dksX9_copies_0 13 rfl rfl)
theorem dX9_copies_14 : decode cX9_copies 14 = .ok (.iastore, 1) := dk_79 (dk_at dksX9_copies_0 14 rfl rfl)
theorem dX9_copies_15 : decode cX9_copies 15 = .ok (.iinc 2 1, 3) := dk_132 2 1 (dk_at dksX9_copies_0 15 rfl rfl)
theorem dX9_copies_18 : decode cX9_copies 18 = .ok (.goto (-16), 3) := dk_167 255 240 (dk_at dksX9_copies_0 18 rfl rfl)
theorem dX9_copies_21 : decode cX9_copies 21 = .ok (.return_, 1) := dk_177 (dk_at dksX9_copies_0 21 rfl rfl)
abbrev cX9_lay : ByteArray := prog_17_method_32_code
def yX9_lay : MethodName := ⟨RX9, "lay", "(II)V"⟩
def dkwX9_lay_0 : List UInt8 := [42, 180, 0, 36, 17, 9, 164, 42, 180, 0, 101, 104, 27, 96, 28, 79, 177]
abbrev dktX9_lay_0 : List UInt8 := dkwX9_lay_0 ++ []
theorem dksX9_lay_0 : cX9_lay.data.toList.drop 0 = dktX9_lay_0 := by decide +kernel
theorem dX9_lay_0 : decode cX9_lay 0 = .ok (.aload_n 0, 1) := dk_42 (dk_at dksX9_lay_0 0 rfl rfl)
theorem dX9_lay_1 : decode cX9_lay 1 = .ok (.getfield 36, 3) := dk_180 0 36 (dk_at dksX9_lay_0 1 rfl rfl)
theorem dX9_lay_4 : decode cX9_lay 4 = .ok (.sipush 2468, 3) := dk_17 9 164 (dk_at dksX9_lay_0 4 rfl rfl)
theorem dX9_lay_7 : decode cX9_lay 7 = .ok (.aload_n 0, 1) := dk_42 (dk_at dksX9_lay_0 7 rfl rfl)
theorem dX9_lay_8 : decode cX9_lay 8 = .ok (.getfield 101, 3) := dk_180 0 101 (dk_at dksX9_lay_0 8 rfl rfl)
theorem dX9_lay_11 : decode cX9_lay 11 = .ok (.imul, 1) := dk_104 (dk_at dksX9_lay_0 11 rfl rfl)
theorem dX9_lay_12 : decode cX9_lay 12 = .ok (.iload_n 1, 1) := dk_27 (dk_at dksX9_lay_0 12 rfl rfl)
theorem dX9_lay_13 : decode cX9_lay 13 = .ok (.iadd, 1) := dk_96 (dk_at dksX9_lay_0 13 rfl rfl)
theorem dX9_lay_14 : decode cX9_lay 14 = .ok (.iload_n 2, 1) := dk_28 (dk_at dksX9_lay_0 14 rfl rfl)
theorem dX9_lay_15 : decode cX9_lay 15 = .ok (.iastore, 1) := dk_79 (dk_at dksX9_lay_0 15 rfl rfl)
theorem dX9_lay_16 : decode cX9_lay 16 = .ok (.return_, 1) := dk_177 (dk_at dksX9_lay_0 16 rfl rfl)
abbrev cX9_told1 : ByteArray := prog_17_method_14_code
def yX9_told1 : MethodName := ⟨RX9, "told1", "(II)I"⟩
def dkwX9_told1_0 : List UInt8 := [42, 180, 0, 20, 16, 8, 27, 104, 28, 96, 46, 172]
abbrev dktX9_told1_0 : List UInt8 := dkwX9_told1_0 ++ []
theorem dksX9_told1_0 : cX9_told1.data.toList.drop 0 = dktX9_told1_0 := by decide +kernel
theorem dX9_told1_0 : decode cX9_told1 0 = .ok (.aload_n 0, 1) := dk_42 (dk_at dksX9_told1_0 0 rfl rfl)
theorem dX9_told1_1 : decode cX9_told1 1 = .ok (.getfield 20, 3) := dk_180 0 20 (dk_at dksX9_told1_0 1 rfl rfl)
theorem dX9_told1_4 : decode cX9_told1 4 = .ok (.bipush 8, 2) := dk_16 8 (dk_at dksX9_told1_0 4 rfl rfl)
theorem dX9_told1_6 : decode cX9_told1 6 = .ok (.iload_n 1, 1) := dk_27 (dk_at dksX9_told1_0 6 rfl rfl)
theorem dX9_told1_7 : decode cX9_told1 7 = .ok (.imul, 1) := dk_104 (dk_at dksX9_told1_0 7 rfl rfl)
theorem dX9_told1_8 : decode cX9_told1 8 = .ok (.iload_n 2, 1) := dk_28 (dk_at dksX9_told1_0 8 rfl rfl)
theorem dX9_told1_9 : decode cX9_told1 9 = .ok (.iadd, 1) := dk_96 (dk_at dksX9_told1_0 9 rfl rfl)
theorem dX9_told1_10 : decode cX9_told1 10 = .ok (.iaload, 1) := dk_46 (dk_at dksX9_told1_0 10 rfl rfl)
theorem dX9_told1_11 : decode cX9_told1 11 = .ok (.ireturn, 1) := dk_172 (dk_at dksX9_told1_0 11 rfl rfl)
abbrev cX9_comesNow : ByteArray := prog_17_method_43_code
def yX9_comesNow : MethodName := ⟨RX9, "comesNow", "()V"⟩
def dkwX9_comesNow_9 : List UInt8 := [180, 0, 29, 8, 28, 104, 7, 96, 46, 182, 0, 187, 87, 132, 2, 1, 167, 255, 173, 177]
abbrev dktX9_comesNow_9 : List UInt8 := dkwX9_comesNow_9 ++ []
def dkwX9_comesNow_8 : List UInt8 := [28, 104, 46, 42, 180, 0, 29, 8, 28, 104, 5, 96, 46, 42, 180, 0, 29, 8, 28, 104, 6, 96, 46, 42]
abbrev dktX9_comesNow_8 : List UInt8 := dkwX9_comesNow_8 ++ dktX9_comesNow_9
def dkwX9_comesNow_7 : List UInt8 := [96, 46, 27, 160, 0, 58, 42, 17, 7, 73, 182, 0, 174, 16, 8, 162, 0, 46, 42, 42, 180, 0, 29, 8]
abbrev dktX9_comesNow_7 : List UInt8 := dkwX9_comesNow_7 ++ dktX9_comesNow_8
def dkwX9_comesNow_6 : List UInt8 := [167, 255, 190, 3, 61, 28, 42, 180, 0, 32, 16, 6, 46, 162, 0, 78, 42, 180, 0, 29, 8, 28, 104, 4]
abbrev dktX9_comesNow_6 : List UInt8 := dkwX9_comesNow_6 ++ dktX9_comesNow_7
def dkwX9_comesNow_5 : List UInt8 := [5, 96, 46, 96, 182, 0, 181, 42, 180, 0, 26, 7, 28, 104, 6, 96, 46, 182, 0, 184, 132, 2, 1]
abbrev dktX9_comesNow_5 : List UInt8 := dkwX9_comesNow_5 ++ dktX9_comesNow_6
def dkwX9_comesNow_4 : List UInt8 := [46, 27, 160, 0, 42, 42, 42, 42, 180, 0, 26, 7, 28, 104, 46, 27, 5, 42, 180, 0, 26, 7, 28, 104]
abbrev dktX9_comesNow_4 : List UInt8 := dkwX9_comesNow_4 ++ dktX9_comesNow_5
def dkwX9_comesNow_3 : List UInt8 := [167, 255, 192, 3, 61, 28, 42, 180, 0, 32, 8, 46, 162, 0, 62, 42, 180, 0, 26, 7, 28, 104, 4, 96]
abbrev dktX9_comesNow_3 : List UInt8 := dkwX9_comesNow_3 ++ dktX9_comesNow_4
def dkwX9_comesNow_2 : List UInt8 := [28, 104, 5, 96, 46, 182, 0, 181, 42, 180, 0, 23, 7, 28, 104, 6, 96, 46, 182, 0, 184, 132, 2, 1]
abbrev dktX9_comesNow_2 : List UInt8 := dkwX9_comesNow_2 ++ dktX9_comesNow_3
def dkwX9_comesNow_1 : List UInt8 := [104, 4, 96, 46, 27, 160, 0, 40, 42, 42, 42, 180, 0, 23, 7, 28, 104, 46, 27, 42, 180, 0, 23, 7]
abbrev dktX9_comesNow_1 : List UInt8 := dkwX9_comesNow_1 ++ dktX9_comesNow_2
def dkwX9_comesNow_0 : List UInt8 := [42, 3, 182, 0, 174, 60, 3, 61, 28, 42, 180, 0, 32, 7, 46, 162, 0, 60, 42, 180, 0, 23, 7, 28]
abbrev dktX9_comesNow_0 : List UInt8 := dkwX9_comesNow_0 ++ dktX9_comesNow_1
theorem dksX9_comesNow_0 : cX9_comesNow.data.toList.drop 0 = dktX9_comesNow_0 := by decide +kernel
theorem dksX9_comesNow_1 : cX9_comesNow.data.toList.drop 24 = dktX9_comesNow_1 := dk_seg dksX9_comesNow_0 24 rfl rfl
theorem dksX9_comesNow_2 : cX9_comesNow.data.toList.drop 48 = dktX9_comesNow_2 := dk_seg dksX9_comesNow_1 24 rfl rfl
theorem dksX9_comesNow_3 : cX9_comesNow.data.toList.drop 72 = dktX9_comesNow_3 := dk_seg dksX9_comesNow_2 24 rfl rfl
theorem dksX9_comesNow_4 : cX9_comesNow.data.toList.drop 96 = dktX9_comesNow_4 := dk_seg dksX9_comesNow_3 24 rfl rfl
theorem dksX9_comesNow_5 : cX9_comesNow.data.toList.drop 120 = dktX9_comesNow_5 := dk_seg dksX9_comesNow_4 24 rfl rfl
theorem dksX9_comesNow_6 : cX9_comesNow.data.toList.drop 143 = dktX9_comesNow_6 := dk_seg dksX9_comesNow_5 23 rfl rfl
theorem dksX9_comesNow_7 : cX9_comesNow.data.toList.drop 167 = dktX9_comesNow_7 := dk_seg dksX9_comesNow_6 24 rfl rfl
theorem dksX9_comesNow_8 : cX9_comesNow.data.toList.drop 191 = dktX9_comesNow_8 := dk_seg dksX9_comesNow_7 24 rfl rfl
theorem dksX9_comesNow_9 : cX9_comesNow.data.toList.drop 215 = dktX9_comesNow_9 := dk_seg dksX9_comesNow_8 24 rfl rfl
theorem dX9_comesNow_0 : decode cX9_comesNow 0 = .ok (.aload_n 0, 1) := dk_42 (dk_at dksX9_comesNow_0 0 rfl rfl)
theorem dX9_comesNow_1 : decode cX9_comesNow 1 = .ok (.iconst 0, 1) := dk_3 (dk_at dksX9_comesNow_0 1 rfl rfl)
theorem dX9_comesNow_2 : decode cX9_comesNow 2 = .ok (.invokevirtual 174, 3) := dk_182 0 174 (dk_at dksX9_comesNow_0 2 rfl rfl)
theorem dX9_comesNow_5 : decode cX9_comesNow 5 = .ok (.istore_n 1, 1) := dk_60 (dk_at dksX9_comesNow_0 5 rfl rfl)
theorem dX9_comesNow_6 : decode cX9_comesNow 6 = .ok (.iconst 0, 1) := dk_3 (dk_at dksX9_comesNow_0 6 rfl rfl)
theorem dX9_comesNow_7 : decode cX9_comesNow 7 = .ok (.istore_n 2, 1) := dk_61 (dk_at dksX9_comesNow_0 7 rfl rfl)
theorem dX9_comesNow_8 : decode cX9_comesNow 8 = .ok (.iload_n 2, 1) := dk_28 (dk_at dksX9_comesNow_0 8 rfl rfl)
theorem dX9_comesNow_9 : decode cX9_comesNow 9 = .ok (.aload_n 0, 1) := dk_42 (dk_at dksX9_comesNow_0 9 rfl rfl)
theorem dX9_comesNow_10 : decode cX9_comesNow 10 = .ok (.getfield 32, 3) := dk_180 0 32 (dk_at dksX9_comesNow_0 10 rfl rfl)
theorem dX9_comesNow_13 : decode cX9_comesNow 13 = .ok (.iconst 4, 1) := dk_7 (dk_at dksX9_comesNow_0 13 rfl rfl)
theorem dX9_comesNow_14 : decode cX9_comesNow 14 = .ok (.iaload, 1) := dk_46 (dk_at dksX9_comesNow_0 14 rfl rfl)
theorem dX9_comesNow_15 : decode cX9_comesNow 15 = .ok (.if_icmp .ge 60, 3) := dk_162 0 60 (dk_at dksX9_comesNow_0 15 rfl rfl)
theorem dX9_comesNow_18 : decode cX9_comesNow 18 = .ok (.aload_n 0, 1) := dk_42 (dk_at dksX9_comesNow_0 18 rfl rfl)
theorem dX9_comesNow_19 : decode cX9_comesNow 19 = .ok (.getfield 23, 3) := dk_180 0 23 (dk_at dksX9_comesNow_0 19 rfl rfl)
theorem dX9_comesNow_22 : decode cX9_comesNow 22 = .ok (.iconst 4, 1) := dk_7 (dk_at dksX9_comesNow_0 22 rfl rfl)
theorem dX9_comesNow_23 : decode cX9_comesNow 23 = .ok (.iload_n 2, 1) := dk_28 (dk_at dksX9_comesNow_0 23 rfl rfl)
theorem dX9_comesNow_24 : decode cX9_comesNow 24 = .ok (.imul, 1) := dk_104 (dk_at dksX9_comesNow_1 0 rfl rfl)
theorem dX9_comesNow_25 : decode cX9_comesNow 25 = .ok (.iconst 1, 1) := dk_4 (dk_at dksX9_comesNow_1 1 rfl rfl)
theorem dX9_comesNow_26 : decode cX9_comesNow 26 = .ok (.iadd, 1) := dk_96 (dk_at dksX9_comesNow_1 2 rfl rfl)
theorem dX9_comesNow_27 : decode cX9_comesNow 27 = .ok (.iaload, 1) := dk_46 (dk_at dksX9_comesNow_1 3 rfl rfl)
theorem dX9_comesNow_28 : decode cX9_comesNow 28 = .ok (.iload_n 1, 1) := dk_27 (dk_at dksX9_comesNow_1 4 rfl rfl)
theorem dX9_comesNow_29 : decode cX9_comesNow 29 = .ok (.if_icmp .ne 40, 3) := dk_160 0 40 (dk_at dksX9_comesNow_1 5 rfl rfl)
theorem dX9_comesNow_32 : decode cX9_comesNow 32 = .ok (.aload_n 0, 1) := dk_42 (dk_at dksX9_comesNow_1 8 rfl rfl)
theorem dX9_comesNow_33 : decode cX9_comesNow 33 = .ok (.aload_n 0, 1) := dk_42 (dk_at dksX9_comesNow_1 9 rfl rfl)
theorem dX9_comesNow_34 : decode cX9_comesNow 34 = .ok (.aload_n 0, 1) := dk_42 (dk_at dksX9_comesNow_1 10 rfl rfl)
theorem dX9_comesNow_35 : decode cX9_comesNow 35 = .ok (.getfield 23, 3) := dk_180 0 23 (dk_at dksX9_comesNow_1 11 rfl rfl)
theorem dX9_comesNow_38 : decode cX9_comesNow 38 = .ok (.iconst 4, 1) := dk_7 (dk_at dksX9_comesNow_1 14 rfl rfl)
theorem dX9_comesNow_39 : decode cX9_comesNow 39 = .ok (.iload_n 2, 1) := dk_28 (dk_at dksX9_comesNow_1 15 rfl rfl)
theorem dX9_comesNow_40 : decode cX9_comesNow 40 = .ok (.imul, 1) := dk_104 (dk_at dksX9_comesNow_1 16 rfl rfl)
theorem dX9_comesNow_41 : decode cX9_comesNow 41 = .ok (.iaload, 1) := dk_46 (dk_at dksX9_comesNow_1 17 rfl rfl)
theorem dX9_comesNow_42 : decode cX9_comesNow 42 = .ok (.iload_n 1, 1) := dk_27 (dk_at dksX9_comesNow_1 18 rfl rfl)
theorem dX9_comesNow_43 : decode cX9_comesNow 43 = .ok (.aload_n 0, 1) := dk_42 (dk_at dksX9_comesNow_1 19 rfl rfl)
theorem dX9_comesNow_44 : decode cX9_comesNow 44 = .ok (.getfield 23, 3) := dk_180 0 23 (dk_at dksX9_comesNow_1 20 rfl rfl)
theorem dX9_comesNow_47 : decode cX9_comesNow 47 = .ok (.iconst 4, 1) := dk_7 (dk_at dksX9_comesNow_1 23 rfl rfl)
theorem dX9_comesNow_48 : decode cX9_comesNow 48 = .ok (.iload_n 2, 1) := dk_28 (dk_at dksX9_comesNow_2 0 rfl rfl)
theorem dX9_comesNow_49 : decode cX9_comesNow 49 = .ok (.imul, 1) := dk_104 (dk_at dksX9_comesNow_2 1 rfl rfl)
theorem dX9_comesNow_50 : decode cX9_comesNow 50 = .ok (.iconst 2, 1) := dk_5 (dk_at dksX9_comesNow_2 2 rfl rfl)
theorem dX9_comesNow_51 : decode cX9_comesNow 51 = .ok (.iadd, 1) := dk_96 (dk_at dksX9_comesNow_2 3 rfl rfl)
theorem dX9_comesNow_52 : decode cX9_comesNow 52 = .ok (.iaload, 1) := dk_46 (dk_at dksX9_comesNow_2 4 rfl rfl)
theorem dX9_comesNow_53 : decode cX9_comesNow 53 = .ok (.invokevirtual 181, 3) := dk_182 0 181 (dk_at dksX9_comesNow_2 5 rfl rfl)
theorem dX9_comesNow_56 : decode cX9_comesNow 56 = .ok (.aload_n 0, 1) := dk_42 (dk_at dksX9_comesNow_2 8 rfl rfl)
theorem dX9_comesNow_57 : decode cX9_comesNow 57 = .ok (.getfield 23, 3) := dk_180 0 23 (dk_at dksX9_comesNow_2 9 rfl rfl)
theorem dX9_comesNow_60 : decode cX9_comesNow 60 = .ok (.iconst 4, 1) := dk_7 (dk_at dksX9_comesNow_2 12 rfl rfl)
theorem dX9_comesNow_61 : decode cX9_comesNow 61 = .ok (.iload_n 2, 1) := dk_28 (dk_at dksX9_comesNow_2 13 rfl rfl)
theorem dX9_comesNow_62 : decode cX9_comesNow 62 = .ok (.imul, 1) := dk_104 (dk_at dksX9_comesNow_2 14 rfl rfl)
theorem dX9_comesNow_63 : decode cX9_comesNow 63 = .ok (.iconst 3, 1) := dk_6 (dk_at dksX9_comesNow_2 15 rfl rfl)
theorem dX9_comesNow_64 : decode cX9_comesNow 64 = .ok (.iadd, 1) := dk_96 (dk_at dksX9_comesNow_2 16 rfl rfl)
theorem dX9_comesNow_65 : decode cX9_comesNow 65 = .ok (.iaload, 1) := dk_46 (dk_at dksX9_comesNow_2 17 rfl rfl)
theorem dX9_comesNow_66 : decode cX9_comesNow 66 = .ok (.invokevirtual 184, 3) := dk_182 0 184 (dk_at dksX9_comesNow_2 18 rfl rfl)
theorem dX9_comesNow_69 : decode cX9_comesNow 69 = .ok (.iinc 2 1, 3) := dk_132 2 1 (dk_at dksX9_comesNow_2 21 rfl rfl)
theorem dX9_comesNow_72 : decode cX9_comesNow 72 = .ok (.goto (-64), 3) := dk_167 255 192 (dk_at dksX9_comesNow_3 0 rfl rfl)
theorem dX9_comesNow_75 : decode cX9_comesNow 75 = .ok (.iconst 0, 1) := dk_3 (dk_at dksX9_comesNow_3 3 rfl rfl)
theorem dX9_comesNow_76 : decode cX9_comesNow 76 = .ok (.istore_n 2, 1) := dk_61 (dk_at dksX9_comesNow_3 4 rfl rfl)
theorem dX9_comesNow_77 : decode cX9_comesNow 77 = .ok (.iload_n 2, 1) := dk_28 (dk_at dksX9_comesNow_3 5 rfl rfl)
theorem dX9_comesNow_78 : decode cX9_comesNow 78 = .ok (.aload_n 0, 1) := dk_42 (dk_at dksX9_comesNow_3 6 rfl rfl)
theorem dX9_comesNow_79 : decode cX9_comesNow 79 = .ok (.getfield 32, 3) := dk_180 0 32 (dk_at dksX9_comesNow_3 7 rfl rfl)
theorem dX9_comesNow_82 : decode cX9_comesNow 82 = .ok (.iconst 5, 1) := dk_8 (dk_at dksX9_comesNow_3 10 rfl rfl)
theorem dX9_comesNow_83 : decode cX9_comesNow 83 = .ok (.iaload, 1) := dk_46 (dk_at dksX9_comesNow_3 11 rfl rfl)
theorem dX9_comesNow_84 : decode cX9_comesNow 84 = .ok (.if_icmp .ge 62, 3) := dk_162 0 62 (dk_at dksX9_comesNow_3 12 rfl rfl)
theorem dX9_comesNow_87 : decode cX9_comesNow 87 = .ok (.aload_n 0, 1) := dk_42 (dk_at dksX9_comesNow_3 15 rfl rfl)
theorem dX9_comesNow_88 : decode cX9_comesNow 88 = .ok (.getfield 26, 3) := dk_180 0 26 (dk_at dksX9_comesNow_3 16 rfl rfl)
theorem dX9_comesNow_91 : decode cX9_comesNow 91 = .ok (.iconst 4, 1) := dk_7 (dk_at dksX9_comesNow_3 19 rfl rfl)
theorem dX9_comesNow_92 : decode cX9_comesNow 92 = .ok (.iload_n 2, 1) := dk_28 (dk_at dksX9_comesNow_3 20 rfl rfl)
theorem dX9_comesNow_93 : decode cX9_comesNow 93 = .ok (.imul, 1) := dk_104 (dk_at dksX9_comesNow_3 21 rfl rfl)
theorem dX9_comesNow_94 : decode cX9_comesNow 94 = .ok (.iconst 1, 1) := dk_4 (dk_at dksX9_comesNow_3 22 rfl rfl)
theorem dX9_comesNow_95 : decode cX9_comesNow 95 = .ok (.iadd, 1) := dk_96 (dk_at dksX9_comesNow_3 23 rfl rfl)
theorem dX9_comesNow_96 : decode cX9_comesNow 96 = .ok (.iaload, 1) := dk_46 (dk_at dksX9_comesNow_4 0 rfl rfl)
theorem dX9_comesNow_97 : decode cX9_comesNow 97 = .ok (.iload_n 1, 1) := dk_27 (dk_at dksX9_comesNow_4 1 rfl rfl)
theorem dX9_comesNow_98 : decode cX9_comesNow 98 = .ok (.if_icmp .ne 42, 3) := dk_160 0 42 (dk_at dksX9_comesNow_4 2 rfl rfl)
theorem dX9_comesNow_101 : decode cX9_comesNow 101 = .ok (.aload_n 0, 1) := dk_42 (dk_at dksX9_comesNow_4 5 rfl rfl)
theorem dX9_comesNow_102 : decode cX9_comesNow 102 = .ok (.aload_n 0, 1) := dk_42 (dk_at dksX9_comesNow_4 6 rfl rfl)
theorem dX9_comesNow_103 : decode cX9_comesNow 103 = .ok (.aload_n 0, 1) := dk_42 (dk_at dksX9_comesNow_4 7 rfl rfl)
theorem dX9_comesNow_104 : decode cX9_comesNow 104 = .ok (.getfield 26, 3) := dk_180 0 26 (dk_at dksX9_comesNow_4 8 rfl rfl)
theorem dX9_comesNow_107 : decode cX9_comesNow 107 = .ok (.iconst 4, 1) := dk_7 (dk_at dksX9_comesNow_4 11 rfl rfl)
theorem dX9_comesNow_108 : decode cX9_comesNow 108 = .ok (.iload_n 2, 1) := dk_28 (dk_at dksX9_comesNow_4 12 rfl rfl)
theorem dX9_comesNow_109 : decode cX9_comesNow 109 = .ok (.imul, 1) := dk_104 (dk_at dksX9_comesNow_4 13 rfl rfl)
theorem dX9_comesNow_110 : decode cX9_comesNow 110 = .ok (.iaload, 1) := dk_46 (dk_at dksX9_comesNow_4 14 rfl rfl)
theorem dX9_comesNow_111 : decode cX9_comesNow 111 = .ok (.iload_n 1, 1) := dk_27 (dk_at dksX9_comesNow_4 15 rfl rfl)
theorem dX9_comesNow_112 : decode cX9_comesNow 112 = .ok (.iconst 2, 1) := dk_5 (dk_at dksX9_comesNow_4 16 rfl rfl)
theorem dX9_comesNow_113 : decode cX9_comesNow 113 = .ok (.aload_n 0, 1) := dk_42 (dk_at dksX9_comesNow_4 17 rfl rfl)
theorem dX9_comesNow_114 : decode cX9_comesNow 114 = .ok (.getfield 26, 3) := dk_180 0 26 (dk_at dksX9_comesNow_4 18 rfl rfl)
theorem dX9_comesNow_117 : decode cX9_comesNow 117 = .ok (.iconst 4, 1) := dk_7 (dk_at dksX9_comesNow_4 21 rfl rfl)
theorem dX9_comesNow_118 : decode cX9_comesNow 118 = .ok (.iload_n 2, 1) := dk_28 (dk_at dksX9_comesNow_4 22 rfl rfl)
theorem dX9_comesNow_119 : decode cX9_comesNow 119 = .ok (.imul, 1) := dk_104 (dk_at dksX9_comesNow_4 23 rfl rfl)
theorem dX9_comesNow_120 : decode cX9_comesNow 120 = .ok (.iconst 2, 1) := dk_5 (dk_at dksX9_comesNow_5 0 rfl rfl)
theorem dX9_comesNow_121 : decode cX9_comesNow 121 = .ok (.iadd, 1) := dk_96 (dk_at dksX9_comesNow_5 1 rfl rfl)
theorem dX9_comesNow_122 : decode cX9_comesNow 122 = .ok (.iaload, 1) := dk_46 (dk_at dksX9_comesNow_5 2 rfl rfl)
theorem dX9_comesNow_123 : decode cX9_comesNow 123 = .ok (.iadd, 1) := dk_96 (dk_at dksX9_comesNow_5 3 rfl rfl)
theorem dX9_comesNow_124 : decode cX9_comesNow 124 = .ok (.invokevirtual 181, 3) := dk_182 0 181 (dk_at dksX9_comesNow_5 4 rfl rfl)
theorem dX9_comesNow_127 : decode cX9_comesNow 127 = .ok (.aload_n 0, 1) := dk_42 (dk_at dksX9_comesNow_5 7 rfl rfl)
theorem dX9_comesNow_128 : decode cX9_comesNow 128 = .ok (.getfield 26, 3) := dk_180 0 26 (dk_at dksX9_comesNow_5 8 rfl rfl)
theorem dX9_comesNow_131 : decode cX9_comesNow 131 = .ok (.iconst 4, 1) := dk_7 (dk_at dksX9_comesNow_5 11 rfl rfl)
theorem dX9_comesNow_132 : decode cX9_comesNow 132 = .ok (.iload_n 2, 1) := dk_28 (dk_at dksX9_comesNow_5 12 rfl rfl)
theorem dX9_comesNow_133 : decode cX9_comesNow 133 = .ok (.imul, 1) := dk_104 (dk_at dksX9_comesNow_5 13 rfl rfl)
theorem dX9_comesNow_134 : decode cX9_comesNow 134 = .ok (.iconst 3, 1) := dk_6 (dk_at dksX9_comesNow_5 14 rfl rfl)
theorem dX9_comesNow_135 : decode cX9_comesNow 135 = .ok (.iadd, 1) := dk_96 (dk_at dksX9_comesNow_5 15 rfl rfl)
theorem dX9_comesNow_136 : decode cX9_comesNow 136 = .ok (.iaload, 1) := dk_46 (dk_at dksX9_comesNow_5 16 rfl rfl)
theorem dX9_comesNow_137 : decode cX9_comesNow 137 = .ok (.invokevirtual 184, 3) := dk_182 0 184 (dk_at dksX9_comesNow_5 17 rfl rfl)
theorem dX9_comesNow_140 : decode cX9_comesNow 140 = .ok (.iinc 2 1, 3) := dk_132 2 1 (dk_at dksX9_comesNow_5 20 rfl rfl)
theorem dX9_comesNow_143 : decode cX9_comesNow 143 = .ok (.goto (-66), 3) := dk_167 255 190 (dk_at dksX9_comesNow_6 0 rfl rfl)
theorem dX9_comesNow_146 : decode cX9_comesNow 146 = .ok (.iconst 0, 1) := dk_3 (dk_at dksX9_comesNow_6 3 rfl rfl)
theorem dX9_comesNow_147 : decode cX9_comesNow 147 = .ok (.istore_n 2, 1) := dk_61 (dk_at dksX9_comesNow_6 4 rfl rfl)
theorem dX9_comesNow_148 : decode cX9_comesNow 148 = .ok (.iload_n 2, 1) := dk_28 (dk_at dksX9_comesNow_6 5 rfl rfl)
theorem dX9_comesNow_149 : decode cX9_comesNow 149 = .ok (.aload_n 0, 1) := dk_42 (dk_at dksX9_comesNow_6 6 rfl rfl)
theorem dX9_comesNow_150 : decode cX9_comesNow 150 = .ok (.getfield 32, 3) := dk_180 0 32 (dk_at dksX9_comesNow_6 7 rfl rfl)
theorem dX9_comesNow_153 : decode cX9_comesNow 153 = .ok (.bipush 6, 2) := dk_16 6 (dk_at dksX9_comesNow_6 10 rfl rfl)
theorem dX9_comesNow_155 : decode cX9_comesNow 155 = .ok (.iaload, 1) := dk_46 (dk_at dksX9_comesNow_6 12 rfl rfl)
theorem dX9_comesNow_156 : decode cX9_comesNow 156 = .ok (.if_icmp .ge 78, 3) := dk_162 0 78 (dk_at dksX9_comesNow_6 13 rfl rfl)
theorem dX9_comesNow_159 : decode cX9_comesNow 159 = .ok (.aload_n 0, 1) := dk_42 (dk_at dksX9_comesNow_6 16 rfl rfl)
theorem dX9_comesNow_160 : decode cX9_comesNow 160 = .ok (.getfield 29, 3) := dk_180 0 29 (dk_at dksX9_comesNow_6 17 rfl rfl)
theorem dX9_comesNow_163 : decode cX9_comesNow 163 = .ok (.iconst 5, 1) := dk_8 (dk_at dksX9_comesNow_6 20 rfl rfl)
theorem dX9_comesNow_164 : decode cX9_comesNow 164 = .ok (.iload_n 2, 1) := dk_28 (dk_at dksX9_comesNow_6 21 rfl rfl)
theorem dX9_comesNow_165 : decode cX9_comesNow 165 = .ok (.imul, 1) := dk_104 (dk_at dksX9_comesNow_6 22 rfl rfl)
theorem dX9_comesNow_166 : decode cX9_comesNow 166 = .ok (.iconst 1, 1) := dk_4 (dk_at dksX9_comesNow_6 23 rfl rfl)
theorem dX9_comesNow_167 : decode cX9_comesNow 167 = .ok (.iadd, 1) := dk_96 (dk_at dksX9_comesNow_7 0 rfl rfl)
theorem dX9_comesNow_168 : decode cX9_comesNow 168 = .ok (.iaload, 1) := dk_46 (dk_at dksX9_comesNow_7 1 rfl rfl)
theorem dX9_comesNow_169 : decode cX9_comesNow 169 = .ok (.iload_n 1, 1) := dk_27 (dk_at dksX9_comesNow_7 2 rfl rfl)
theorem dX9_comesNow_170 : decode cX9_comesNow 170 = .ok (.if_icmp .ne 58, 3) := dk_160 0 58 (dk_at dksX9_comesNow_7 3 rfl rfl)
theorem dX9_comesNow_173 : decode cX9_comesNow 173 = .ok (.aload_n 0, 1) := dk_42 (dk_at dksX9_comesNow_7 6 rfl rfl)
theorem dX9_comesNow_174 : decode cX9_comesNow 174 = .ok (.sipush 1865, 3) := dk_17 7 73 (dk_at dksX9_comesNow_7 7 rfl rfl)
theorem dX9_comesNow_177 : decode cX9_comesNow 177 = .ok (.invokevirtual 174, 3) := dk_182 0 174 (dk_at dksX9_comesNow_7 10 rfl rfl)
theorem dX9_comesNow_180 : decode cX9_comesNow 180 = .ok (.bipush 8, 2) := dk_16 8 (dk_at dksX9_comesNow_7 13 rfl rfl)
theorem dX9_comesNow_182 : decode cX9_comesNow 182 = .ok (.if_icmp .ge 46, 3) := dk_162 0 46 (dk_at dksX9_comesNow_7 15 rfl rfl)
theorem dX9_comesNow_185 : decode cX9_comesNow 185 = .ok (.aload_n 0, 1) := dk_42 (dk_at dksX9_comesNow_7 18 rfl rfl)
theorem dX9_comesNow_186 : decode cX9_comesNow 186 = .ok (.aload_n 0, 1) := dk_42 (dk_at dksX9_comesNow_7 19 rfl rfl)
theorem dX9_comesNow_187 : decode cX9_comesNow 187 = .ok (.getfield 29, 3) := dk_180 0 29 (dk_at dksX9_comesNow_7 20 rfl rfl)
theorem dX9_comesNow_190 : decode cX9_comesNow 190 = .ok (.iconst 5, 1) := dk_8 (dk_at dksX9_comesNow_7 23 rfl rfl)
theorem dX9_comesNow_191 : decode cX9_comesNow 191 = .ok (.iload_n 2, 1) := dk_28 (dk_at dksX9_comesNow_8 0 rfl rfl)
theorem dX9_comesNow_192 : decode cX9_comesNow 192 = .ok (.imul, 1) := dk_104 (dk_at dksX9_comesNow_8 1 rfl rfl)
theorem dX9_comesNow_193 : decode cX9_comesNow 193 = .ok (.iaload, 1) := dk_46 (dk_at dksX9_comesNow_8 2 rfl rfl)
theorem dX9_comesNow_194 : decode cX9_comesNow 194 = .ok (.aload_n 0, 1) := dk_42 (dk_at dksX9_comesNow_8 3 rfl rfl)
theorem dX9_comesNow_195 : decode cX9_comesNow 195 = .ok (.getfield 29, 3) := dk_180 0 29 (dk_at dksX9_comesNow_8 4 rfl rfl)
theorem dX9_comesNow_198 : decode cX9_comesNow 198 = .ok (.iconst 5, 1) := dk_8 (dk_at dksX9_comesNow_8 7 rfl rfl)
theorem dX9_comesNow_199 : decode cX9_comesNow 199 = .ok (.iload_n 2, 1) := dk_28 (dk_at dksX9_comesNow_8 8 rfl rfl)
theorem dX9_comesNow_200 : decode cX9_comesNow 200 = .ok (.imul, 1) := dk_104 (dk_at dksX9_comesNow_8 9 rfl rfl)
theorem dX9_comesNow_201 : decode cX9_comesNow 201 = .ok (.iconst 2, 1) := dk_5 (dk_at dksX9_comesNow_8 10 rfl rfl)
theorem dX9_comesNow_202 : decode cX9_comesNow 202 = .ok (.iadd, 1) := dk_96 (dk_at dksX9_comesNow_8 11 rfl rfl)
theorem dX9_comesNow_203 : decode cX9_comesNow 203 = .ok (.iaload, 1) := dk_46 (dk_at dksX9_comesNow_8 12 rfl rfl)
theorem dX9_comesNow_204 : decode cX9_comesNow 204 = .ok (.aload_n 0, 1) := dk_42 (dk_at dksX9_comesNow_8 13 rfl rfl)
theorem dX9_comesNow_205 : decode cX9_comesNow 205 = .ok (.getfield 29, 3) := dk_180 0 29 (dk_at dksX9_comesNow_8 14 rfl rfl)
theorem dX9_comesNow_208 : decode cX9_comesNow 208 = .ok (.iconst 5, 1) := dk_8 (dk_at dksX9_comesNow_8 17 rfl rfl)
theorem dX9_comesNow_209 : decode cX9_comesNow 209 = .ok (.iload_n 2, 1) := dk_28 (dk_at dksX9_comesNow_8 18 rfl rfl)
theorem dX9_comesNow_210 : decode cX9_comesNow 210 = .ok (.imul, 1) := dk_104 (dk_at dksX9_comesNow_8 19 rfl rfl)
theorem dX9_comesNow_211 : decode cX9_comesNow 211 = .ok (.iconst 3, 1) := dk_6 (dk_at dksX9_comesNow_8 20 rfl rfl)
theorem dX9_comesNow_212 : decode cX9_comesNow 212 = .ok (.iadd, 1) := dk_96 (dk_at dksX9_comesNow_8 21 rfl rfl)
theorem dX9_comesNow_213 : decode cX9_comesNow 213 = .ok (.iaload, 1) := dk_46 (dk_at dksX9_comesNow_8 22 rfl rfl)
theorem dX9_comesNow_214 : decode cX9_comesNow 214 = .ok (.aload_n 0, 1) := dk_42 (dk_at dksX9_comesNow_8 23 rfl rfl)
theorem dX9_comesNow_215 : decode cX9_comesNow 215 = .ok (.getfield 29, 3) := dk_180 0 29 (dk_at dksX9_comesNow_9 0 rfl rfl)
theorem dX9_comesNow_218 : decode cX9_comesNow 218 = .ok (.iconst 5, 1) := dk_8 (dk_at dksX9_comesNow_9 3 rfl rfl)
theorem dX9_comesNow_219 : decode cX9_comesNow 219 = .ok (.iload_n 2, 1) := dk_28 (dk_at dksX9_comesNow_9 4 rfl rfl)
theorem dX9_comesNow_220 : decode cX9_comesNow 220 = .ok (.imul, 1) := dk_104 (dk_at dksX9_comesNow_9 5 rfl rfl)
theorem dX9_comesNow_221 : decode cX9_comesNow 221 = .ok (.iconst 4, 1) := dk_7 (dk_at dksX9_comesNow_9 6 rfl rfl)
theorem dX9_comesNow_222 : decode cX9_comesNow 222 = .ok (.iadd, 1) := dk_96 (dk_at dksX9_comesNow_9 7 rfl rfl)
theorem dX9_comesNow_223 : decode cX9_comesNow 223 = .ok (.iaload, 1) := dk_46 (dk_at dksX9_comesNow_9 8 rfl rfl)
theorem dX9_comesNow_224 : decode cX9_comesNow 224 = .ok (.invokevirtual 187, 3) := dk_182 0 187 (dk_at dksX9_comesNow_9 9 rfl rfl)
theorem dX9_comesNow_227 : decode cX9_comesNow 227 = .ok (.pop, 1) := dk_87 (dk_at dksX9_comesNow_9 12 rfl rfl)
theorem dX9_comesNow_228 : decode cX9_comesNow 228 = .ok (.iinc 2 1, 3) := dk_132 2 1 (dk_at dksX9_comesNow_9 13 rfl rfl)
theorem dX9_comesNow_231 : decode cX9_comesNow 231 = .ok (.goto (-83), 3) := dk_167 255 173 (dk_at dksX9_comesNow_9 16 rfl rfl)
theorem dX9_comesNow_234 : decode cX9_comesNow 234 = .ok (.return_, 1) := dk_177 (dk_at dksX9_comesNow_9 19 rfl rfl)
abbrev cX9_of : ByteArray := prog_17_method_31_code
def yX9_of : MethodName := ⟨RX9, "of", "(I)I"⟩
def dkwX9_of_0 : List UInt8 := [42, 180, 0, 36, 17, 9, 164, 42, 180, 0, 101, 104, 27, 96, 46, 172]
abbrev dktX9_of_0 : List UInt8 := dkwX9_of_0 ++ []
theorem dksX9_of_0 : cX9_of.data.toList.drop 0 = dktX9_of_0 := by decide +kernel
theorem dX9_of_0 : decode cX9_of 0 = .ok (.aload_n 0, 1) := dk_42 (dk_at dksX9_of_0 0 rfl rfl)
theorem dX9_of_1 : decode cX9_of 1 = .ok (.getfield 36, 3) := dk_180 0 36 (dk_at dksX9_of_0 1 rfl rfl)
theorem dX9_of_4 : decode cX9_of 4 = .ok (.sipush 2468, 3) := dk_17 9 164 (dk_at dksX9_of_0 4 rfl rfl)
theorem dX9_of_7 : decode cX9_of 7 = .ok (.aload_n 0, 1) := dk_42 (dk_at dksX9_of_0 7 rfl rfl)
theorem dX9_of_8 : decode cX9_of 8 = .ok (.getfield 101, 3) := dk_180 0 101 (dk_at dksX9_of_0 8 rfl rfl)
theorem dX9_of_11 : decode cX9_of 11 = .ok (.imul, 1) := dk_104 (dk_at dksX9_of_0 11 rfl rfl)
theorem dX9_of_12 : decode cX9_of 12 = .ok (.iload_n 1, 1) := dk_27 (dk_at dksX9_of_0 12 rfl rfl)
theorem dX9_of_13 : decode cX9_of 13 = .ok (.iadd, 1) := dk_96 (dk_at dksX9_of_0 13 rfl rfl)
theorem dX9_of_14 : decode cX9_of 14 = .ok (.iaload, 1) := dk_46 (dk_at dksX9_of_0 14 rfl rfl)
theorem dX9_of_15 : decode cX9_of 15 = .ok (.ireturn, 1) := dk_172 (dk_at dksX9_of_0 15 rfl rfl)
abbrev cX9_sumAt : ByteArray := prog_17_method_42_code
def yX9_sumAt : MethodName := ⟨RX9, "sumAt", "(III)I"⟩
def dkwX9_sumAt_0 : List UInt8 := [4, 17, 1, 64, 27, 104, 96, 8, 28, 104, 96, 29, 96, 172]
abbrev dktX9_sumAt_0 : List UInt8 := dkwX9_sumAt_0 ++ []
theorem dksX9_sumAt_0 : cX9_sumAt.data.toList.drop 0 = dktX9_sumAt_0 := by decide +kernel
theorem dX9_sumAt_0 : decode cX9_sumAt 0 = .ok (.iconst 1, 1) := dk_4 (dk_at dksX9_sumAt_0 0 rfl rfl)
theorem dX9_sumAt_1 : decode cX9_sumAt 1 = .ok (.sipush 320, 3) := dk_17 1 64 (dk_at dksX9_sumAt_0 1 rfl rfl)
theorem dX9_sumAt_4 : decode cX9_sumAt 4 = .ok (.iload_n 1, 1) := dk_27 (dk_at dksX9_sumAt_0 4 rfl rfl)
theorem dX9_sumAt_5 : decode cX9_sumAt 5 = .ok (.imul, 1) := dk_104 (dk_at dksX9_sumAt_0 5 rfl rfl)
theorem dX9_sumAt_6 : decode cX9_sumAt 6 = .ok (.iadd, 1) := dk_96 (dk_at dksX9_sumAt_0 6 rfl rfl)
theorem dX9_sumAt_7 : decode cX9_sumAt 7 = .ok (.iconst 5, 1) := dk_8 (dk_at dksX9_sumAt_0 7 rfl rfl)
theorem dX9_sumAt_8 : decode cX9_sumAt 8 = .ok (.iload_n 2, 1) := dk_28 (dk_at dksX9_sumAt_0 8 rfl rfl)
theorem dX9_sumAt_9 : decode cX9_sumAt 9 = .ok (.imul, 1) := dk_104 (dk_at dksX9_sumAt_0 9 rfl rfl)
theorem dX9_sumAt_10 : decode cX9_sumAt 10 = .ok (.iadd, 1) := dk_96 (dk_at dksX9_sumAt_0 10 rfl rfl)
theorem dX9_sumAt_11 : decode cX9_sumAt 11 = .ok (.iload_n 3, 1) := dk_29 (dk_at dksX9_sumAt_0 11 rfl rfl)
theorem dX9_sumAt_12 : decode cX9_sumAt 12 = .ok (.iadd, 1) := dk_96 (dk_at dksX9_sumAt_0 12 rfl rfl)
theorem dX9_sumAt_13 : decode cX9_sumAt 13 = .ok (.ireturn, 1) := dk_172 (dk_at dksX9_sumAt_0 13 rfl rfl)
abbrev cX9_add : ByteArray := prog_17_method_33_code
def yX9_add : MethodName := ⟨RX9, "add", "(II)V"⟩
def dkwX9_add_0 : List UInt8 := [42, 27, 42, 27, 182, 0, 174, 28, 96, 182, 0, 111, 177]
abbrev dktX9_add_0 : List UInt8 := dkwX9_add_0 ++ []
theorem dksX9_add_0 : cX9_add.data.toList.drop 0 = dktX9_add_0 := by decide +kernel
theorem dX9_add_0 : decode cX9_add 0 = .ok (.aload_n 0, 1) := dk_42 (dk_at dksX9_add_0 0 rfl rfl)
theorem dX9_add_1 : decode cX9_add 1 = .ok (.iload_n 1, 1) := dk_27 (dk_at dksX9_add_0 1 rfl rfl)
theorem dX9_add_2 : decode cX9_add 2 = .ok (.aload_n 0, 1) := dk_42 (dk_at dksX9_add_0 2 rfl rfl)
theorem dX9_add_3 : decode cX9_add 3 = .ok (.iload_n 1, 1) := dk_27 (dk_at dksX9_add_0 3 rfl rfl)
theorem dX9_add_4 : decode cX9_add 4 = .ok (.invokevirtual 174, 3) := dk_182 0 174 (dk_at dksX9_add_0 4 rfl rfl)
theorem dX9_add_7 : decode cX9_add 7 = .ok (.iload_n 2, 1) := dk_28 (dk_at dksX9_add_0 7 rfl rfl)
theorem dX9_add_8 : decode cX9_add 8 = .ok (.iadd, 1) := dk_96 (dk_at dksX9_add_0 8 rfl rfl)
theorem dX9_add_9 : decode cX9_add 9 = .ok (.invokevirtual 111, 3) := dk_182 0 111 (dk_at dksX9_add_0 9 rfl rfl)
theorem dX9_add_12 : decode cX9_add 12 = .ok (.return_, 1) := dk_177 (dk_at dksX9_add_0 12 rfl rfl)
abbrev cX9_acquires : ByteArray := prog_17_method_44_code
def yX9_acquires : MethodName := ⟨RX9, "acquires", "(IIII)I"⟩
def dkwX9_acquires_5 : List UInt8 := [21, 5, 172]
abbrev dktX9_acquires_5 : List UInt8 := dkwX9_acquires_5 ++ []
def dkwX9_acquires_4 : List UInt8 := [182, 0, 174, 5, 28, 96, 182, 0, 181, 29, 182, 0, 184, 42, 17, 7, 73, 21, 5, 4, 96, 182, 0, 111]
abbrev dktX9_acquires_4 : List UInt8 := dkwX9_acquires_4 ++ dktX9_acquires_5
def dkwX9_acquires_3 : List UInt8 := [21, 4, 182, 0, 191, 42, 21, 5, 8, 42, 3, 182, 0, 174, 182, 0, 191, 42, 42, 27, 42, 3]
abbrev dktX9_acquires_3 : List UInt8 := dkwX9_acquires_3 ++ dktX9_acquires_4
def dkwX9_acquires_2 : List UInt8 := [182, 0, 191, 42, 21, 5, 5, 28, 182, 0, 191, 42, 21, 5, 6, 29, 182, 0, 191, 42, 21, 5, 7]
abbrev dktX9_acquires_2 : List UInt8 := dkwX9_acquires_2 ++ dktX9_acquires_3
def dkwX9_acquires_1 : List UInt8 := [3, 182, 0, 191, 132, 6, 1, 167, 255, 237, 42, 21, 5, 3, 27, 182, 0, 191, 42, 21, 5, 4, 27]
abbrev dktX9_acquires_1 : List UInt8 := dkwX9_acquires_1 ++ dktX9_acquires_2
def dkwX9_acquires_0 : List UInt8 := [42, 17, 7, 73, 182, 0, 174, 54, 5, 3, 54, 6, 21, 6, 16, 48, 162, 0, 18, 42, 21, 5, 21, 6]
abbrev dktX9_acquires_0 : List UInt8 := dkwX9_acquires_0 ++ dktX9_acquires_1
theorem dksX9_acquires_0 : cX9_acquires.data.toList.drop 0 = dktX9_acquires_0 := by decide +kernel
theorem dksX9_acquires_1 : cX9_acquires.data.toList.drop 24 = dktX9_acquires_1 := dk_seg dksX9_acquires_0 24 rfl rfl
theorem dksX9_acquires_2 : cX9_acquires.data.toList.drop 47 = dktX9_acquires_2 := dk_seg dksX9_acquires_1 23 rfl rfl
theorem dksX9_acquires_3 : cX9_acquires.data.toList.drop 70 = dktX9_acquires_3 := dk_seg dksX9_acquires_2 23 rfl rfl
theorem dksX9_acquires_4 : cX9_acquires.data.toList.drop 92 = dktX9_acquires_4 := dk_seg dksX9_acquires_3 22 rfl rfl
theorem dksX9_acquires_5 : cX9_acquires.data.toList.drop 116 = dktX9_acquires_5 := dk_seg dksX9_acquires_4 24 rfl rfl
theorem dX9_acquires_0 : decode cX9_acquires 0 = .ok (.aload_n 0, 1) := dk_42 (dk_at dksX9_acquires_0 0 rfl rfl)
theorem dX9_acquires_1 : decode cX9_acquires 1 = .ok (.sipush 1865, 3) := dk_17 7 73 (dk_at dksX9_acquires_0 1 rfl rfl)
theorem dX9_acquires_4 : decode cX9_acquires 4 = .ok (.invokevirtual 174, 3) := dk_182 0 174 (dk_at dksX9_acquires_0 4 rfl rfl)
theorem dX9_acquires_7 : decode cX9_acquires 7 = .ok (.istore 5, 2) := dk_54 5 (dk_at dksX9_acquires_0 7 rfl rfl)
theorem dX9_acquires_9 : decode cX9_acquires 9 = .ok (.iconst 0, 1) := dk_3 (dk_at dksX9_acquires_0 9 rfl rfl)
theorem dX9_acquires_10 : decode cX9_acquires 10 = .ok (.istore 6, 2) := dk_54 6 (dk_at dksX9_acquires_0 10 rfl rfl)
theorem dX9_acquires_12 : decode cX9_acquires 12 = .ok (.iload 6, 2) := dk_21 6 (dk_at dksX9_acquires_0 12 rfl rfl)
theorem dX9_acquires_14 : decode cX9_acquires 14 = .ok (.bipush 48, 2) := dk_16 48 (dk_at dksX9_acquires_0 14 rfl rfl)
theorem dX9_acquires_16 : decode cX9_acquires 16 = .ok (.if_icmp .ge 18, 3) := dk_162 0 18 (dk_at dksX9_acquires_0 16 rfl rfl)
theorem dX9_acquires_19 : decode cX9_acquires 19 = .ok (.aload_n 0, 1) := dk_42 (dk_at dksX9_acquires_0 19 rfl rfl)
theorem dX9_acquires_20 : decode cX9_acquires 20 = .ok (.iload 5, 2) := dk_21 5 (dk_at dksX9_acquires_0 20 rfl rfl)
theorem dX9_acquires_22 : decode cX9_acquires 22 = .ok (.iload 6, 2) := dk_21 6 (dk_at dksX9_acquires_0 22 rfl rfl)
theorem dX9_acquires_24 : decode cX9_acquires 24 = .ok (.iconst 0, 1) := dk_3 (dk_at dksX9_acquires_1 0 rfl rfl)
theorem dX9_acquires_25 : decode cX9_acquires 25 = .ok (.invokevirtual 191, 3) := dk_182 0 191 (dk_at dksX9_acquires_1 1 rfl rfl)
theorem dX9_acquires_28 : decode cX9_acquires 28 = .ok (.iinc 6 1, 3) := dk_132 6 1 (dk_at dksX9_acquires_1 4 rfl rfl)
theorem dX9_acquires_31 : decode cX9_acquires 31 = .ok (.goto (-19), 3) := dk_167 255 237 (dk_at dksX9_acquires_1 7 rfl rfl)
theorem dX9_acquires_34 : decode cX9_acquires 34 = .ok (.aload_n 0, 1) := dk_42 (dk_at dksX9_acquires_1 10 rfl rfl)
theorem dX9_acquires_35 : decode cX9_acquires 35 = .ok (.iload 5, 2) := dk_21 5 (dk_at dksX9_acquires_1 11 rfl rfl)
theorem dX9_acquires_37 : decode cX9_acquires 37 = .ok (.iconst 0, 1) := dk_3 (dk_at dksX9_acquires_1 13 rfl rfl)
theorem dX9_acquires_38 : decode cX9_acquires 38 = .ok (.iload_n 1, 1) := dk_27 (dk_at dksX9_acquires_1 14 rfl rfl)
theorem dX9_acquires_39 : decode cX9_acquires 39 = .ok (.invokevirtual 191, 3) := dk_182 0 191 (dk_at dksX9_acquires_1 15 rfl rfl)
theorem dX9_acquires_42 : decode cX9_acquires 42 = .ok (.aload_n 0, 1) := dk_42 (dk_at dksX9_acquires_1 18 rfl rfl)
theorem dX9_acquires_43 : decode cX9_acquires 43 = .ok (.iload 5, 2) := dk_21 5 (dk_at dksX9_acquires_1 19 rfl rfl)
theorem dX9_acquires_45 : decode cX9_acquires 45 = .ok (.iconst 1, 1) := dk_4 (dk_at dksX9_acquires_1 21 rfl rfl)
theorem dX9_acquires_46 : decode cX9_acquires 46 = .ok (.iload_n 1, 1) := dk_27 (dk_at dksX9_acquires_1 22 rfl rfl)
theorem dX9_acquires_47 : decode cX9_acquires 47 = .ok (.invokevirtual 191, 3) := dk_182 0 191 (dk_at dksX9_acquires_2 0 rfl rfl)
theorem dX9_acquires_50 : decode cX9_acquires 50 = .ok (.aload_n 0, 1) := dk_42 (dk_at dksX9_acquires_2 3 rfl rfl)
theorem dX9_acquires_51 : decode cX9_acquires 51 = .ok (.iload 5, 2) := dk_21 5 (dk_at dksX9_acquires_2 4 rfl rfl)
theorem dX9_acquires_53 : decode cX9_acquires 53 = .ok (.iconst 2, 1) := dk_5 (dk_at dksX9_acquires_2 6 rfl rfl)
theorem dX9_acquires_54 : decode cX9_acquires 54 = .ok (.iload_n 2, 1) := dk_28 (dk_at dksX9_acquires_2 7 rfl rfl)
theorem dX9_acquires_55 : decode cX9_acquires 55 = .ok (.invokevirtual 191, 3) := dk_182 0 191 (dk_at dksX9_acquires_2 8 rfl rfl)
theorem dX9_acquires_58 : decode cX9_acquires 58 = .ok (.aload_n 0, 1) := dk_42 (dk_at dksX9_acquires_2 11 rfl rfl)
theorem dX9_acquires_59 : decode cX9_acquires 59 = .ok (.iload 5, 2) := dk_21 5 (dk_at dksX9_acquires_2 12 rfl rfl)
theorem dX9_acquires_61 : decode cX9_acquires 61 = .ok (.iconst 3, 1) := dk_6 (dk_at dksX9_acquires_2 14 rfl rfl)
theorem dX9_acquires_62 : decode cX9_acquires 62 = .ok (.iload_n 3, 1) := dk_29 (dk_at dksX9_acquires_2 15 rfl rfl)
theorem dX9_acquires_63 : decode cX9_acquires 63 = .ok (.invokevirtual 191, 3) := dk_182 0 191 (dk_at dksX9_acquires_2 16 rfl rfl)
theorem dX9_acquires_66 : decode cX9_acquires 66 = .ok (.aload_n 0, 1) := dk_42 (dk_at dksX9_acquires_2 19 rfl rfl)
theorem dX9_acquires_67 : decode cX9_acquires 67 = .ok (.iload 5, 2) := dk_21 5 (dk_at dksX9_acquires_2 20 rfl rfl)
theorem dX9_acquires_69 : decode cX9_acquires 69 = .ok (.iconst 4, 1) := dk_7 (dk_at dksX9_acquires_2 22 rfl rfl)
theorem dX9_acquires_70 : decode cX9_acquires 70 = .ok (.iload 4, 2) := dk_21 4 (dk_at dksX9_acquires_3 0 rfl rfl)
theorem dX9_acquires_72 : decode cX9_acquires 72 = .ok (.invokevirtual 191, 3) := dk_182 0 191 (dk_at dksX9_acquires_3 2 rfl rfl)
theorem dX9_acquires_75 : decode cX9_acquires 75 = .ok (.aload_n 0, 1) := dk_42 (dk_at dksX9_acquires_3 5 rfl rfl)
theorem dX9_acquires_76 : decode cX9_acquires 76 = .ok (.iload 5, 2) := dk_21 5 (dk_at dksX9_acquires_3 6 rfl rfl)
theorem dX9_acquires_78 : decode cX9_acquires 78 = .ok (.iconst 5, 1) := dk_8 (dk_at dksX9_acquires_3 8 rfl rfl)
theorem dX9_acquires_79 : decode cX9_acquires 79 = .ok (.aload_n 0, 1) := dk_42 (dk_at dksX9_acquires_3 9 rfl rfl)
theorem dX9_acquires_80 : decode cX9_acquires 80 = .ok (.iconst 0, 1) := dk_3 (dk_at dksX9_acquires_3 10 rfl rfl)
theorem dX9_acquires_81 : decode cX9_acquires 81 = .ok (.invokevirtual 174, 3) := dk_182 0 174 (dk_at dksX9_acquires_3 11 rfl rfl)
theorem dX9_acquires_84 : decode cX9_acquires 84 = .ok (.invokevirtual 191, 3) := dk_182 0 191 (dk_at dksX9_acquires_3 14 rfl rfl)
theorem dX9_acquires_87 : decode cX9_acquires 87 = .ok (.aload_n 0, 1) := dk_42 (dk_at dksX9_acquires_3 17 rfl rfl)
theorem dX9_acquires_88 : decode cX9_acquires 88 = .ok (.aload_n 0, 1) := dk_42 (dk_at dksX9_acquires_3 18 rfl rfl)
theorem dX9_acquires_89 : decode cX9_acquires 89 = .ok (.iload_n 1, 1) := dk_27 (dk_at dksX9_acquires_3 19 rfl rfl)
theorem dX9_acquires_90 : decode cX9_acquires 90 = .ok (.aload_n 0, 1) := dk_42 (dk_at dksX9_acquires_3 20 rfl rfl)
theorem dX9_acquires_91 : decode cX9_acquires 91 = .ok (.iconst 0, 1) := dk_3 (dk_at dksX9_acquires_3 21 rfl rfl)
theorem dX9_acquires_92 : decode cX9_acquires 92 = .ok (.invokevirtual 174, 3) := dk_182 0 174 (dk_at dksX9_acquires_4 0 rfl rfl)
theorem dX9_acquires_95 : decode cX9_acquires 95 = .ok (.iconst 2, 1) := dk_5 (dk_at dksX9_acquires_4 3 rfl rfl)
theorem dX9_acquires_96 : decode cX9_acquires 96 = .ok (.iload_n 2, 1) := dk_28 (dk_at dksX9_acquires_4 4 rfl rfl)
theorem dX9_acquires_97 : decode cX9_acquires 97 = .ok (.iadd, 1) := dk_96 (dk_at dksX9_acquires_4 5 rfl rfl)
theorem dX9_acquires_98 : decode cX9_acquires 98 = .ok (.invokevirtual 181, 3) := dk_182 0 181 (dk_at dksX9_acquires_4 6 rfl rfl)
theorem dX9_acquires_101 : decode cX9_acquires 101 = .ok (.iload_n 3, 1) := dk_29 (dk_at dksX9_acquires_4 9 rfl rfl)
theorem dX9_acquires_102 : decode cX9_acquires 102 = .ok (.invokevirtual 184, 3) := dk_182 0 184 (dk_at dksX9_acquires_4 10 rfl rfl)
theorem dX9_acquires_105 : decode cX9_acquires 105 = .ok (.aload_n 0, 1) := dk_42 (dk_at dksX9_acquires_4 13 rfl rfl)
theorem dX9_acquires_106 : decode cX9_acquires 106 = .ok (.sipush 1865, 3) := dk_17 7 73 (dk_at dksX9_acquires_4 14 rfl rfl)
theorem dX9_acquires_109 : decode cX9_acquires 109 = .ok (.iload 5, 2) := dk_21 5 (dk_at dksX9_acquires_4 17 rfl rfl)
theorem dX9_acquires_111 : decode cX9_acquires 111 = .ok (.iconst 1, 1) := dk_4 (dk_at dksX9_acquires_4 19 rfl rfl)
theorem dX9_acquires_112 : decode cX9_acquires 112 = .ok (.iadd, 1) := dk_96 (dk_at dksX9_acquires_4 20 rfl rfl)
theorem dX9_acquires_113 : decode cX9_acquires 113 = .ok (.invokevirtual 111, 3) := dk_182 0 111 (dk_at dksX9_acquires_4 21 rfl rfl)
theorem dX9_acquires_116 : decode cX9_acquires 116 = .ok (.iload 5, 2) := dk_21 5 (dk_at dksX9_acquires_5 0 rfl rfl)
theorem dX9_acquires_118 : decode cX9_acquires 118 = .ok (.ireturn, 1) := dk_172 (dk_at dksX9_acquires_5 2 rfl rfl)
abbrev cX9_put : ByteArray := prog_17_method_35_code
def yX9_put : MethodName := ⟨RX9, "put", "(III)V"⟩
def dkwX9_put_0 : List UInt8 := [42, 17, 8, 36, 16, 48, 27, 104, 96, 28, 96, 29, 182, 0, 111, 177]
abbrev dktX9_put_0 : List UInt8 := dkwX9_put_0 ++ []
theorem dksX9_put_0 : cX9_put.data.toList.drop 0 = dktX9_put_0 := by decide +kernel
theorem dX9_put_0 : decode cX9_put 0 = .ok (.aload_n 0, 1) := dk_42 (dk_at dksX9_put_0 0 rfl rfl)
theorem dX9_put_1 : decode cX9_put 1 = .ok (.sipush 2084, 3) := dk_17 8 36 (dk_at dksX9_put_0 1 rfl rfl)
theorem dX9_put_4 : decode cX9_put 4 = .ok (.bipush 48, 2) := dk_16 48 (dk_at dksX9_put_0 4 rfl rfl)
theorem dX9_put_6 : decode cX9_put 6 = .ok (.iload_n 1, 1) := dk_27 (dk_at dksX9_put_0 6 rfl rfl)
theorem dX9_put_7 : decode cX9_put 7 = .ok (.imul, 1) := dk_104 (dk_at dksX9_put_0 7 rfl rfl)
theorem dX9_put_8 : decode cX9_put 8 = .ok (.iadd, 1) := dk_96 (dk_at dksX9_put_0 8 rfl rfl)
theorem dX9_put_9 : decode cX9_put 9 = .ok (.iload_n 2, 1) := dk_28 (dk_at dksX9_put_0 9 rfl rfl)
theorem dX9_put_10 : decode cX9_put 10 = .ok (.iadd, 1) := dk_96 (dk_at dksX9_put_0 10 rfl rfl)
theorem dX9_put_11 : decode cX9_put 11 = .ok (.iload_n 3, 1) := dk_29 (dk_at dksX9_put_0 11 rfl rfl)
theorem dX9_put_12 : decode cX9_put 12 = .ok (.invokevirtual 111, 3) := dk_182 0 111 (dk_at dksX9_put_0 12 rfl rfl)
theorem dX9_put_15 : decode cX9_put 15 = .ok (.return_, 1) := dk_177 (dk_at dksX9_put_0 15 rfl rfl)
abbrev cX9_thrown : ByteArray := prog_17_method_2_code
def yX9_thrown : MethodName := ⟨RX9, "thrown", "()I"⟩
theorem dX9_thrown_0 : decode cX9_thrown 0 = .ok (.aload_n 0, 1) := by decide +kernel
theorem dX9_thrown_1 : decode cX9_thrown 1 = .ok (.getfield 49, 3) := by decide +kernel
theorem dX9_thrown_4 : decode cX9_thrown 4 = .ok (.ireturn, 1) := by decide +kernel
abbrev cX9_feed : ByteArray := prog_17_method_3_code
def yX9_feed : MethodName := ⟨RX9, "feed", "(IIIII)I"⟩
def dkwX9_feed_5 : List UInt8 := [16, 20, 96, 181, 0, 52, 42, 180, 0, 52, 172]
abbrev dktX9_feed_5 : List UInt8 := dkwX9_feed_5 ++ []
def dkwX9_feed_4 : List UInt8 := [21, 6, 7, 112, 104, 100, 122, 17, 0, 255, 126, 79, 132, 6, 1, 167, 255, 169, 42, 89, 180, 0, 52]
abbrev dktX9_feed_4 : List UInt8 := dkwX9_feed_4 ++ dktX9_feed_5
def dkwX9_feed_3 : List UInt8 := [167, 0, 5, 21, 5, 54, 7, 42, 180, 0, 7, 42, 180, 0, 52, 21, 6, 96, 21, 7, 16, 24, 16, 8]
abbrev dktX9_feed_3 : List UInt8 := dkwX9_feed_3 ++ dktX9_feed_4
def dkwX9_feed_2 : List UInt8 := [28, 167, 0, 28, 21, 6, 16, 12, 162, 0, 7, 29, 167, 0, 17, 21, 6, 16, 16, 162, 0, 8, 21, 4]
abbrev dktX9_feed_2 : List UInt8 := dkwX9_feed_2 ++ dktX9_feed_3
def dkwX9_feed_1 : List UInt8 := [21, 6, 16, 20, 162, 0, 86, 21, 6, 7, 162, 0, 7, 27, 167, 0, 39, 21, 6, 16, 8, 162, 0, 7]
abbrev dktX9_feed_1 : List UInt8 := dkwX9_feed_1 ++ dktX9_feed_2
def dkwX9_feed_0 : List UInt8 := [42, 3, 181, 0, 49, 42, 180, 0, 52, 16, 20, 96, 17, 2, 188, 164, 0, 5, 2, 172, 3, 54, 6]
abbrev dktX9_feed_0 : List UInt8 := dkwX9_feed_0 ++ dktX9_feed_1
theorem dksX9_feed_0 : cX9_feed.data.toList.drop 0 = dktX9_feed_0 := by decide +kernel
theorem dksX9_feed_1 : cX9_feed.data.toList.drop 23 = dktX9_feed_1 := dk_seg dksX9_feed_0 23 rfl rfl
theorem dksX9_feed_2 : cX9_feed.data.toList.drop 47 = dktX9_feed_2 := dk_seg dksX9_feed_1 24 rfl rfl
theorem dksX9_feed_3 : cX9_feed.data.toList.drop 71 = dktX9_feed_3 := dk_seg dksX9_feed_2 24 rfl rfl
theorem dksX9_feed_4 : cX9_feed.data.toList.drop 95 = dktX9_feed_4 := dk_seg dksX9_feed_3 24 rfl rfl
theorem dksX9_feed_5 : cX9_feed.data.toList.drop 118 = dktX9_feed_5 := dk_seg dksX9_feed_4 23 rfl rfl
theorem dX9_feed_0 : decode cX9_feed 0 = .ok (.aload_n 0, 1) := dk_42 (dk_at dksX9_feed_0 0 rfl rfl)
theorem dX9_feed_1 : decode cX9_feed 1 = .ok (.iconst 0, 1) := dk_3 (dk_at dksX9_feed_0 1 rfl rfl)
theorem dX9_feed_2 : decode cX9_feed 2 = .ok (.putfield 49, 3) := dk_181 0 49 (dk_at dksX9_feed_0 2 rfl rfl)
theorem dX9_feed_5 : decode cX9_feed 5 = .ok (.aload_n 0, 1) := dk_42 (dk_at dksX9_feed_0 5 rfl rfl)
theorem dX9_feed_6 : decode cX9_feed 6 = .ok (.getfield 52, 3) := dk_180 0 52 (dk_at dksX9_feed_0 6 rfl rfl)
theorem dX9_feed_9 : decode cX9_feed 9 = .ok (.bipush 20, 2) := dk_16 20 (dk_at dksX9_feed_0 9 rfl rfl)
theorem dX9_feed_11 : decode cX9_feed 11 = .ok (.iadd, 1) := dk_96 (dk_at dksX9_feed_0 11 rfl rfl)
theorem dX9_feed_12 : decode cX9_feed 12 = .ok (.sipush 700, 3) := dk_17 2 188 (dk_at dksX9_feed_0 12 rfl rfl)
theorem dX9_feed_15 : decode cX9_feed 15 = .ok (.if_icmp .le 5, 3) := dk_164 0 5 (dk_at dksX9_feed_0 15 rfl rfl)
theorem dX9_feed_18 : decode cX9_feed 18 = .ok (.iconst (-1), 1) := dk_2 (dk_at dksX9_feed_0 18 rfl rfl)
theorem dX9_feed_19 : decode cX9_feed 19 = .ok (.ireturn, 1) := dk_172 (dk_at dksX9_feed_0 19 rfl rfl)
theorem dX9_feed_20 : decode cX9_feed 20 = .ok (.iconst 0, 1) := dk_3 (dk_at dksX9_feed_0 20 rfl rfl)
theorem dX9_feed_21 : decode cX9_feed 21 = .ok (.istore 6, 2) := dk_54 6 (dk_at dksX9_feed_0 21 rfl rfl)
theorem dX9_feed_23 : decode cX9_feed 23 = .ok (.iload 6, 2) := dk_21 6 (dk_at dksX9_feed_1 0 rfl rfl)
theorem dX9_feed_25 : decode cX9_feed 25 = .ok (.bipush 20, 2) := dk_16 20 (dk_at dksX9_feed_1 2 rfl rfl)
theorem dX9_feed_27 : decode cX9_feed 27 = .ok (.if_icmp .ge 86, 3) := dk_162 0 86 (dk_at dksX9_feed_1 4 rfl rfl)
theorem dX9_feed_30 : decode cX9_feed 30 = .ok (.iload 6, 2) := dk_21 6 (dk_at dksX9_feed_1 7 rfl rfl)
theorem dX9_feed_32 : decode cX9_feed 32 = .ok (.iconst 4, 1) := dk_7 (dk_at dksX9_feed_1 9 rfl rfl)
theorem dX9_feed_33 : decode cX9_feed 33 = .ok (.if_icmp .ge 7, 3) := dk_162 0 7 (dk_at dksX9_feed_1 10 rfl rfl)
theorem dX9_feed_36 : decode cX9_feed 36 = .ok (.iload_n 1, 1) := dk_27 (dk_at dksX9_feed_1 13 rfl rfl)
theorem dX9_feed_37 : decode cX9_feed 37 = .ok (.goto 39, 3) := dk_167 0 39 (dk_at dksX9_feed_1 14 rfl rfl)
theorem dX9_feed_40 : decode cX9_feed 40 = .ok (.iload 6, 2) := dk_21 6 (dk_at dksX9_feed_1 17 rfl rfl)
theorem dX9_feed_42 : decode cX9_feed 42 = .ok (.bipush 8, 2) := dk_16 8 (dk_at dksX9_feed_1 19 rfl rfl)
theorem dX9_feed_44 : decode cX9_feed 44 = .ok (.if_icmp .ge 7, 3) := dk_162 0 7 (dk_at dksX9_feed_1 21 rfl rfl)
theorem dX9_feed_47 : decode cX9_feed 47 = .ok (.iload_n 2, 1) := dk_28 (dk_at dksX9_feed_2 0 rfl rfl)
theorem dX9_feed_48 : decode cX9_feed 48 = .ok (.goto 28, 3) := dk_167 0 28 (dk_at dksX9_feed_2 1 rfl rfl)
theorem dX9_feed_51 : decode cX9_feed 51 = .ok (.iload 6, 2) := dk_21 6 (dk_at dksX9_feed_2 4 rfl rfl)
theorem dX9_feed_53 : decode cX9_feed 53 = .ok (.bipush 12, 2) := dk_16 12 (dk_at dksX9_feed_2 6 rfl rfl)
theorem dX9_feed_55 : decode cX9_feed 55 = .ok (.if_icmp .ge 7, 3) := dk_162 0 7 (dk_at dksX9_feed_2 8 rfl rfl)
theorem dX9_feed_58 : decode cX9_feed 58 = .ok (.iload_n 3, 1) := dk_29 (dk_at dksX9_feed_2 11 rfl rfl)
theorem dX9_feed_59 : decode cX9_feed 59 = .ok (.goto 17, 3) := dk_167 0 17 (dk_at dksX9_feed_2 12 rfl rfl)
theorem dX9_feed_62 : decode cX9_feed 62 = .ok (.iload 6, 2) := dk_21 6 (dk_at dksX9_feed_2 15 rfl rfl)
theorem dX9_feed_64 : decode cX9_feed 64 = .ok (.bipush 16, 2) := dk_16 16 (dk_at dksX9_feed_2 17 rfl rfl)
theorem dX9_feed_66 : decode cX9_feed 66 = .ok (.if_icmp .ge 8, 3) := dk_162 0 8 (dk_at dksX9_feed_2 19 rfl rfl)
theorem dX9_feed_69 : decode cX9_feed 69 = .ok (.iload 4, 2) := dk_21 4 (dk_at dksX9_feed_2 22 rfl rfl)
theorem dX9_feed_71 : decode cX9_feed 71 = .ok (.goto 5, 3) := dk_167 0 5 (dk_at dksX9_feed_3 0 rfl rfl)
theorem dX9_feed_74 : decode cX9_feed 74 = .ok (.iload 5, 2) := dk_21 5 (dk_at dksX9_feed_3 3 rfl rfl)
theorem dX9_feed_76 : decode cX9_feed 76 = .ok (.istore 7, 2) := dk_54 7 (dk_at dksX9_feed_3 5 rfl rfl)
theorem dX9_feed_78 : decode cX9_feed 78 = .ok (.aload_n 0, 1) := dk_42 (dk_at dksX9_feed_3 7 rfl rfl)
theorem dX9_feed_79 : decode cX9_feed 79 = .ok (.getfield 7, 3) := dk_180 0 7 (dk_at dksX9_feed_3 8 rfl rfl)
theorem dX9_feed_82 : decode cX9_feed 82 = .ok (.aload_n 0, 1) := dk_42 (dk_at dksX9_feed_3 11 rfl rfl)
theorem dX9_feed_83 : decode cX9_feed 83 = .ok (.getfield 52, 3) := dk_180 0 52 (dk_at dksX9_feed_3 12 rfl rfl)
theorem dX9_feed_86 : decode cX9_feed 86 = .ok (.iload 6, 2) := dk_21 6 (dk_at dksX9_feed_3 15 rfl rfl)
theorem dX9_feed_88 : decode cX9_feed 88 = .ok (.iadd, 1) := dk_96 (dk_at dksX9_feed_3 17 rfl rfl)
theorem dX9_feed_89 : decode cX9_feed 89 = .ok (.iload 7, 2) := dk_21 7 (dk_at dksX9_feed_3 18 rfl rfl)
theorem dX9_feed_91 : decode cX9_feed 91 = .ok (.bipush 24, 2) := dk_16 24 (dk_at dksX9_feed_3 20 rfl rfl)
theorem dX9_feed_93 : decode cX9_feed 93 = .ok (.bipush 8, 2) := dk_16 8 (dk_at dksX9_feed_3 22 rfl rfl)
theorem dX9_feed_95 : decode cX9_feed 95 = .ok (.iload 6, 2) := dk_21 6 (dk_at dksX9_feed_4 0 rfl rfl)
theorem dX9_feed_97 : decode cX9_feed 97 = .ok (.iconst 4, 1) := dk_7 (dk_at dksX9_feed_4 2 rfl rfl)
theorem dX9_feed_98 : decode cX9_feed 98 = .ok (.irem, 1) := dk_112 (dk_at dksX9_feed_4 3 rfl rfl)
theorem dX9_feed_99 : decode cX9_feed 99 = .ok (.imul, 1) := dk_104 (dk_at dksX9_feed_4 4 rfl rfl)
theorem dX9_feed_100 : decode cX9_feed 100 = .ok (.isub, 1) := dk_100 (dk_at dksX9_feed_4 5 rfl rfl)
theorem dX9_feed_101 : decode cX9_feed 101 = .ok (.ishr, 1) := dk_122 (dk_at dksX9_feed_4 6 rfl rfl)
theorem dX9_feed_102 : decode cX9_feed 102 = .ok (.sipush 255, 3) := dk_17 0 255 (dk_at dksX9_feed_4 7 rfl rfl)
theorem dX9_feed_105 : decode cX9_feed 105 = .ok (.iand, 1) := dk_126 (dk_at dksX9_feed_4 10 rfl rfl)
theorem dX9_feed_106 : decode cX9_feed 106 = .ok (.iastore, 1) := dk_79 (dk_at dksX9_feed_4 11 rfl rfl)
theorem dX9_feed_107 : decode cX9_feed 107 = .ok (.iinc 6 1, 3) := dk_132 6 1 (dk_at dksX9_feed_4 12 rfl rfl)
theorem dX9_feed_110 : decode cX9_feed 110 = .ok (.goto (-87), 3) := dk_167 255 169 (dk_at dksX9_feed_4 15 rfl rfl)
theorem dX9_feed_113 : decode cX9_feed 113 = .ok (.aload_n 0, 1) := dk_42 (dk_at dksX9_feed_4 18 rfl rfl)
theorem dX9_feed_114 : decode cX9_feed 114 = .ok (.dup, 1) := dk_89 (dk_at dksX9_feed_4 19 rfl rfl)
theorem dX9_feed_115 : decode cX9_feed 115 = .ok (.getfield 52, 3) := dk_180 0 52 (dk_at dksX9_feed_4 20 rfl rfl)
theorem dX9_feed_118 : decode cX9_feed 118 = .ok (.bipush 20, 2) := dk_16 20 (dk_at dksX9_feed_5 0 rfl rfl)
theorem dX9_feed_120 : decode cX9_feed 120 = .ok (.iadd, 1) := dk_96 (dk_at dksX9_feed_5 2 rfl rfl)
theorem dX9_feed_121 : decode cX9_feed 121 = .ok (.putfield 52, 3) := dk_181 0 52 (dk_at dksX9_feed_5 3 rfl rfl)
theorem dX9_feed_124 : decode cX9_feed 124 = .ok (.aload_n 0, 1) := dk_42 (dk_at dksX9_feed_5 6 rfl rfl)
theorem dX9_feed_125 : decode cX9_feed 125 = .ok (.getfield 52, 3) := dk_180 0 52 (dk_at dksX9_feed_5 7 rfl rfl)
theorem dX9_feed_128 : decode cX9_feed 128 = .ok (.ireturn, 1) := dk_172 (dk_at dksX9_feed_5 10 rfl rfl)
abbrev cX9_text : ByteArray := prog_17_method_27_code
def yX9_text : MethodName := ⟨RX9, "text", "(I)I"⟩
def dkwX9_text_3 : List UInt8 := [172, 132, 2, 1, 167, 255, 237, 42, 182, 0, 46, 28, 172]
abbrev dktX9_text_3 : List UInt8 := dkwX9_text_3 ++ []
def dkwX9_text_2 : List UInt8 := [182, 0, 43, 42, 182, 0, 131, 3, 61, 42, 180, 0, 67, 153, 0, 18, 42, 182, 0, 171, 154, 0, 5, 2]
abbrev dktX9_text_2 : List UInt8 := dkwX9_text_2 ++ dktX9_text_3
def dkwX9_text_1 : List UInt8 := [181, 0, 61, 42, 3, 181, 0, 52, 42, 3, 181, 0, 55, 42, 2, 181, 0, 16, 42, 3, 181, 0, 64, 42]
abbrev dktX9_text_1 : List UInt8 := dkwX9_text_1 ++ dktX9_text_2
def dkwX9_text_0 : List UInt8 := [42, 3, 181, 0, 49, 27, 155, 0, 11, 27, 42, 180, 0, 52, 164, 0, 6, 16, 254, 172, 42, 27]
abbrev dktX9_text_0 : List UInt8 := dkwX9_text_0 ++ dktX9_text_1
theorem dksX9_text_0 : cX9_text.data.toList.drop 0 = dktX9_text_0 := by decide +kernel
theorem dksX9_text_1 : cX9_text.data.toList.drop 22 = dktX9_text_1 := dk_seg dksX9_text_0 22 rfl rfl
theorem dksX9_text_2 : cX9_text.data.toList.drop 46 = dktX9_text_2 := dk_seg dksX9_text_1 24 rfl rfl
theorem dksX9_text_3 : cX9_text.data.toList.drop 70 = dktX9_text_3 := dk_seg dksX9_text_2 24 rfl rfl
theorem dX9_text_0 : decode cX9_text 0 = .ok (.aload_n 0, 1) := dk_42 (dk_at dksX9_text_0 0 rfl rfl)
theorem dX9_text_1 : decode cX9_text 1 = .ok (.iconst 0, 1) := dk_3 (dk_at dksX9_text_0 1 rfl rfl)
theorem dX9_text_2 : decode cX9_text 2 = .ok (.putfield 49, 3) := dk_181 0 49 (dk_at dksX9_text_0 2 rfl rfl)
theorem dX9_text_5 : decode cX9_text 5 = .ok (.iload_n 1, 1) := dk_27 (dk_at dksX9_text_0 5 rfl rfl)
theorem dX9_text_6 : decode cX9_text 6 = .ok (.ifCond .lt 11, 3) := dk_155 0 11 (dk_at dksX9_text_0 6 rfl rfl)
theorem dX9_text_9 : decode cX9_text 9 = .ok (.iload_n 1, 1) := dk_27 (dk_at dksX9_text_0 9 rfl rfl)
theorem dX9_text_10 : decode cX9_text 10 = .ok (.aload_n 0, 1) := dk_42 (dk_at dksX9_text_0 10 rfl rfl)
theorem dX9_text_11 : decode cX9_text 11 = .ok (.getfield 52, 3) := dk_180 0 52 (dk_at dksX9_text_0 11 rfl rfl)
theorem dX9_text_14 : decode cX9_text 14 = .ok (.if_icmp .le 6, 3) := dk_164 0 6 (dk_at dksX9_text_0 14 rfl rfl)
theorem dX9_text_17 : decode cX9_text 17 = .ok (.bipush (-2), 2) := dk_16 254 (dk_at dksX9_text_0 17 rfl rfl)
theorem dX9_text_19 : decode cX9_text 19 = .ok (.ireturn, 1) := dk_172 (dk_at dksX9_text_0 19 rfl rfl)
theorem dX9_text_20 : decode cX9_text 20 = .ok (.aload_n 0, 1) := dk_42 (dk_at dksX9_text_0 20 rfl rfl)
theorem dX9_text_21 : decode cX9_text 21 = .ok (.iload_n 1, 1) := dk_27 (dk_at dksX9_text_0 21 rfl rfl)
theorem dX9_text_22 : decode cX9_text 22 = .ok (.putfield 61, 3) := dk_181 0 61 (dk_at dksX9_text_1 0 rfl rfl)
theorem dX9_text_25 : decode cX9_text 25 = .ok (.aload_n 0, 1) := dk_42 (dk_at dksX9_text_1 3 rfl rfl)
theorem dX9_text_26 : decode cX9_text 26 = .ok (.iconst 0, 1) := dk_3 (dk_at dksX9_text_1 4 rfl rfl)
theorem dX9_text_27 : decode cX9_text 27 = .ok (.putfield 52, 3) := dk_181 0 52 (dk_at dksX9_text_1 5 rfl rfl)
theorem dX9_text_30 : decode cX9_text 30 = .ok (.aload_n 0, 1) := dk_42 (dk_at dksX9_text_1 8 rfl rfl)
theorem dX9_text_31 : decode cX9_text 31 = .ok (.iconst 0, 1) := dk_3 (dk_at dksX9_text_1 9 rfl rfl)
theorem dX9_text_32 : decode cX9_text 32 = .ok (.putfield 55, 3) := dk_181 0 55 (dk_at dksX9_text_1 10 rfl rfl)
theorem dX9_text_35 : decode cX9_text 35 = .ok (.aload_n 0, 1) := dk_42 (dk_at dksX9_text_1 13 rfl rfl)
theorem dX9_text_36 : decode cX9_text 36 = .ok (.iconst (-1), 1) := dk_2 (dk_at dksX9_text_1 14 rfl rfl)
theorem dX9_text_37 : decode cX9_text 37 = .ok (.putfield 16, 3) := dk_181 0 16 (dk_at dksX9_text_1 15 rfl rfl)
theorem dX9_text_40 : decode cX9_text 40 = .ok (.aload_n 0, 1) := dk_42 (dk_at dksX9_text_1 18 rfl rfl)
theorem dX9_text_41 : decode cX9_text 41 = .ok (.iconst 0, 1) := dk_3 (dk_at dksX9_text_1 19 rfl rfl)
theorem dX9_text_42 : decode cX9_text 42 = .ok (.putfield 64, 3) := dk_181 0 64 (dk_at dksX9_text_1 20 rfl rfl)
theorem dX9_text_45 : decode cX9_text 45 = .ok (.aload_n 0, 1) := dk_42 (dk_at dksX9_text_1 23 rfl rfl)
theorem dX9_text_46 : decode cX9_text 46 = .ok (.invokevirtual 43, 3) := dk_182 0 43 (dk_at dksX9_text_2 0 rfl rfl)
theorem dX9_text_49 : decode cX9_text 49 = .ok (.aload_n 0, 1) := dk_42 (dk_at dksX9_text_2 3 rfl rfl)
theorem dX9_text_50 : decode cX9_text 50 = .ok (.invokevirtual 131, 3) := dk_182 0 131 (dk_at dksX9_text_2 4 rfl rfl)
theorem dX9_text_53 : decode cX9_text 53 = .ok (.iconst 0, 1) := dk_3 (dk_at dksX9_text_2 7 rfl rfl)
theorem dX9_text_54 : decode cX9_text 54 = .ok (.istore_n 2, 1) := dk_61 (dk_at dksX9_text_2 8 rfl rfl)
theorem dX9_text_55 : decode cX9_text 55 = .ok (.aload_n 0, 1) := dk_42 (dk_at dksX9_text_2 9 rfl rfl)
theorem dX9_text_56 : decode cX9_text 56 = .ok (.getfield 67, 3) := dk_180 0 67 (dk_at dksX9_text_2 10 rfl rfl)
theorem dX9_text_59 : decode cX9_text 59 = .ok (.ifCond .eq 18, 3) := dk_153 0 18 (dk_at dksX9_text_2 13 rfl rfl)
theorem dX9_text_62 : decode cX9_text 62 = .ok (.aload_n 0, 1) := dk_42 (dk_at dksX9_text_2 16 rfl rfl)
theorem dX9_text_63 : decode cX9_text 63 = .ok (.invokevirtual 171, 3) := dk_182 0 171 (dk_at dksX9_text_2 17 rfl rfl)
theorem dX9_text_66 : decode cX9_text 66 = .ok (.ifCond .ne 5, 3) := dk_154 0 5 (dk_at dksX9_text_2 20 rfl rfl)
theorem dX9_text_69 : decode cX9_text 69 = .ok (.iconst (-1), 1) := dk_2 (dk_at dksX9_text_2 23 rfl rfl)
theorem dX9_text_70 : decode cX9_text 70 = .ok (.ireturn, 1) := dk_172 (dk_at dksX9_text_3 0 rfl rfl)
theorem dX9_text_71 : decode cX9_text 71 = .ok (.iinc 2 1, 3) := dk_132 2 1 (dk_at dksX9_text_3 1 rfl rfl)
theorem dX9_text_74 : decode cX9_text 74 = .ok (.goto (-19), 3) := dk_167 255 237 (dk_at dksX9_text_3 4 rfl rfl)
theorem dX9_text_77 : decode cX9_text 77 = .ok (.aload_n 0, 1) := dk_42 (dk_at dksX9_text_3 7 rfl rfl)
theorem dX9_text_78 : decode cX9_text 78 = .ok (.invokevirtual 46, 3) := dk_182 0 46 (dk_at dksX9_text_3 8 rfl rfl)
theorem dX9_text_81 : decode cX9_text 81 = .ok (.iload_n 2, 1) := dk_28 (dk_at dksX9_text_3 11 rfl rfl)
theorem dX9_text_82 : decode cX9_text 82 = .ok (.ireturn, 1) := dk_172 (dk_at dksX9_text_3 12 rfl rfl)
abbrev cX9_token : ByteArray := prog_17_method_9_code
def yX9_token : MethodName := ⟨RX9, "token", "()V"⟩
def dkwX9_token_13 : List UInt8 := [96, 181, 0, 64, 177]
abbrev dktX9_token_13 : List UInt8 := dkwX9_token_13 ++ []
def dkwX9_token_12 : List UInt8 := [42, 180, 0, 64, 46, 16, 59, 160, 0, 7, 7, 167, 0, 4, 8, 181, 0, 67, 42, 89, 180, 0, 64, 4]
abbrev dktX9_token_12 : List UInt8 := dkwX9_token_12 ++ dktX9_token_13
def dkwX9_token_11 : List UInt8 := [16, 48, 100, 181, 0, 78, 42, 89, 180, 0, 64, 4, 96, 181, 0, 64, 167, 255, 195, 42, 42, 180, 0, 7]
abbrev dktX9_token_11 : List UInt8 := dkwX9_token_11 ++ dktX9_token_12
def dkwX9_token_10 : List UInt8 := [42, 180, 0, 78, 167, 0, 23, 16, 10, 42, 180, 0, 78, 104, 42, 180, 0, 7, 42, 180, 0, 64, 46, 96]
abbrev dktX9_token_10 : List UInt8 := dkwX9_token_10 ++ dktX9_token_11
def dkwX9_token_9 : List UInt8 := [181, 0, 78, 42, 42, 180, 0, 64, 182, 0, 84, 153, 0, 89, 42, 42, 180, 0, 78, 18, 87, 164, 0, 10]
abbrev dktX9_token_9 : List UInt8 := dkwX9_token_9 ++ dktX9_token_10
def dkwX9_token_8 : List UInt8 := [181, 0, 78, 167, 0, 121, 42, 42, 180, 0, 64, 182, 0, 84, 153, 0, 77, 42, 6, 181, 0, 67, 42, 3]
abbrev dktX9_token_8 : List UInt8 := dkwX9_token_8 ++ dktX9_token_9
def dkwX9_token_7 : List UInt8 := [181, 0, 67, 42, 180, 0, 67, 5, 160, 0, 140, 42, 42, 42, 180, 0, 58, 42, 180, 0, 64, 182, 0, 81]
abbrev dktX9_token_7 : List UInt8 := dkwX9_token_7 ++ dktX9_token_8
def dkwX9_token_6 : List UInt8 := [167, 0, 22, 42, 180, 0, 64, 42, 180, 0, 58, 100, 16, 6, 164, 0, 7, 8, 167, 0, 4, 5]
abbrev dktX9_token_6 : List UInt8 := dkwX9_token_6 ++ dktX9_token_7
def dkwX9_token_5 : List UInt8 := [42, 180, 0, 58, 42, 180, 0, 64, 182, 0, 74, 181, 0, 78, 42, 42, 180, 0, 78, 155, 0, 7, 4]
abbrev dktX9_token_5 : List UInt8 := dkwX9_token_5 ++ dktX9_token_6
def dkwX9_token_4 : List UInt8 := [180, 0, 64, 182, 0, 70, 153, 0, 16, 42, 89, 180, 0, 64, 4, 96, 181, 0, 64, 167, 255, 235, 42, 42]
abbrev dktX9_token_4 : List UInt8 := dkwX9_token_4 ++ dktX9_token_5
def dkwX9_token_3 : List UInt8 := [160, 0, 11, 42, 3, 181, 0, 67, 167, 0, 233, 42, 42, 180, 0, 64, 182, 0, 70, 153, 0, 104, 42, 42]
abbrev dktX9_token_3 : List UInt8 := dkwX9_token_3 ++ dktX9_token_4
def dkwX9_token_2 : List UInt8 := [181, 0, 64, 167, 255, 207, 42, 42, 180, 0, 64, 181, 0, 58, 42, 180, 0, 64, 42, 180, 0, 61]
abbrev dktX9_token_2 : List UInt8 := dkwX9_token_2 ++ dktX9_token_3
def dkwX9_token_1 : List UInt8 := [159, 0, 17, 42, 180, 0, 7, 42, 180, 0, 64, 46, 16, 32, 160, 0, 16, 42, 89, 180, 0, 64, 4, 96]
abbrev dktX9_token_1 : List UInt8 := dkwX9_token_1 ++ dktX9_token_2
def dkwX9_token_0 : List UInt8 := [42, 180, 0, 64, 42, 180, 0, 61, 162, 0, 44, 42, 180, 0, 7, 42, 180, 0, 64, 46, 16, 10]
abbrev dktX9_token_0 : List UInt8 := dkwX9_token_0 ++ dktX9_token_1
theorem dksX9_token_0 : cX9_token.data.toList.drop 0 = dktX9_token_0 := by decide +kernel
theorem dksX9_token_1 : cX9_token.data.toList.drop 22 = dktX9_token_1 := dk_seg dksX9_token_0 22 rfl rfl
theorem dksX9_token_2 : cX9_token.data.toList.drop 46 = dktX9_token_2 := dk_seg dksX9_token_1 24 rfl rfl
theorem dksX9_token_3 : cX9_token.data.toList.drop 68 = dktX9_token_3 := dk_seg dksX9_token_2 22 rfl rfl
theorem dksX9_token_4 : cX9_token.data.toList.drop 92 = dktX9_token_4 := dk_seg dksX9_token_3 24 rfl rfl
theorem dksX9_token_5 : cX9_token.data.toList.drop 116 = dktX9_token_5 := dk_seg dksX9_token_4 24 rfl rfl
theorem dksX9_token_6 : cX9_token.data.toList.drop 139 = dktX9_token_6 := dk_seg dksX9_token_5 23 rfl rfl
theorem dksX9_token_7 : cX9_token.data.toList.drop 161 = dktX9_token_7 := dk_seg dksX9_token_6 22 rfl rfl
theorem dksX9_token_8 : cX9_token.data.toList.drop 185 = dktX9_token_8 := dk_seg dksX9_token_7 24 rfl rfl
theorem dksX9_token_9 : cX9_token.data.toList.drop 209 = dktX9_token_9 := dk_seg dksX9_token_8 24 rfl rfl
theorem dksX9_token_10 : cX9_token.data.toList.drop 233 = dktX9_token_10 := dk_seg dksX9_token_9 24 rfl rfl
theorem dksX9_token_11 : cX9_token.data.toList.drop 257 = dktX9_token_11 := dk_seg dksX9_token_10 24 rfl rfl
theorem dksX9_token_12 : cX9_token.data.toList.drop 281 = dktX9_token_12 := dk_seg dksX9_token_11 24 rfl rfl
theorem dksX9_token_13 : cX9_token.data.toList.drop 305 = dktX9_token_13 := dk_seg dksX9_token_12 24 rfl rfl
theorem dX9_token_0 : decode cX9_token 0 = .ok (.aload_n 0, 1) := dk_42 (dk_at dksX9_token_0 0 rfl rfl)
theorem dX9_token_1 : decode cX9_token 1 = .ok (.getfield 64, 3) := dk_180 0 64 (dk_at dksX9_token_0 1 rfl rfl)
theorem dX9_token_4 : decode cX9_token 4 = .ok (.aload_n 0, 1) := dk_42 (dk_at dksX9_token_0 4 rfl rfl)
theorem dX9_token_5 : decode cX9_token 5 = .ok (.getfield 61, 3) := dk_180 0 61 (dk_at dksX9_token_0 5 rfl rfl)
theorem dX9_token_8 : decode cX9_token 8 = .ok (.if_icmp .ge 44, 3) := dk_162 0 44 (dk_at dksX9_token_0 8 rfl rfl)
theorem dX9_token_11 : decode cX9_token 11 = .ok (.aload_n 0, 1) := dk_42 (dk_at dksX9_token_0 11 rfl rfl)
theorem dX9_token_12 : decode cX9_token 12 = .ok (.getfield 7, 3) := dk_180 0 7 (dk_at dksX9_token_0 12 rfl rfl)
theorem dX9_token_15 : decode cX9_token 15 = .ok (.aload_n 0, 1) := dk_42 (dk_at dksX9_token_0 15 rfl rfl)
theorem dX9_token_16 : decode cX9_token 16 = .ok (.getfield 64, 3) := dk_180 0 64 (dk_at dksX9_token_0 16 rfl rfl)
theorem dX9_token_19 : decode cX9_token 19 = .ok (.iaload, 1) := dk_46 (dk_at dksX9_token_0 19 rfl rfl)
theorem dX9_token_20 : decode cX9_token 20 = .ok (.bipush 10, 2) := dk_16 10 (dk_at dksX9_token_0 20 rfl rfl)
theorem dX9_token_22 : decode cX9_token 22 = .ok (.if_icmp .eq 17, 3) := dk_159 0 17 (dk_at dksX9_token_1 0 rfl rfl)
theorem dX9_token_25 : decode cX9_token 25 = .ok (.aload_n 0, 1) := dk_42 (dk_at dksX9_token_1 3 rfl rfl)
theorem dX9_token_26 : decode cX9_token 26 = .ok (.getfield 7, 3) := dk_180 0 7 (dk_at dksX9_token_1 4 rfl rfl)
theorem dX9_token_29 : decode cX9_token 29 = .ok (.aload_n 0, 1) := dk_42 (dk_at dksX9_token_1 7 rfl rfl)
theorem dX9_token_30 : decode cX9_token 30 = .ok (.getfield 64, 3) := dk_180 0 64 (dk_at dksX9_token_1 8 rfl rfl)
theorem dX9_token_33 : decode cX9_token 33 = .ok (.iaload, 1) := dk_46 (dk_at dksX9_token_1 11 rfl rfl)
theorem dX9_token_34 : decode cX9_token 34 = .ok (.bipush 32, 2) := dk_16 32 (dk_at dksX9_token_1 12 rfl rfl)
theorem dX9_token_36 : decode cX9_token 36 = .ok (.if_icmp .ne 16, 3) := dk_160 0 16 (dk_at dksX9_token_1 14 rfl rfl)
theorem dX9_token_39 : decode cX9_token 39 = .ok (.aload_n 0, 1) := dk_42 (dk_at dksX9_token_1 17 rfl rfl)
theorem dX9_token_40 : decode cX9_token 40 = .ok (.dup, 1) := dk_89 (dk_at dksX9_token_1 18 rfl rfl)
theorem dX9_token_41 : decode cX9_token 41 = .ok (.getfield 64, 3) := dk_180 0 64 (dk_at dksX9_token_1 19 rfl rfl)
theorem dX9_token_44 : decode cX9_token 44 = .ok (.iconst 1, 1) := dk_4 (dk_at dksX9_token_1 22 rfl rfl)
theorem dX9_token_45 : decode cX9_token 45 = .ok (.iadd, 1) := dk_96 (dk_at dksX9_token_1 23 rfl rfl)
theorem dX9_token_46 : decode cX9_token 46 = .ok (.putfield 64, 3) := dk_181 0 64 (dk_at dksX9_token_2 0 rfl rfl)
theorem dX9_token_49 : decode cX9_token 49 = .ok (.goto (-49), 3) := dk_167 255 207 (dk_at dksX9_token_2 3 rfl rfl)
theorem dX9_token_52 : decode cX9_token 52 = .ok (.aload_n 0, 1) := dk_42 (dk_at dksX9_token_2 6 rfl rfl)
theorem dX9_token_53 : decode cX9_token 53 = .ok (.aload_n 0, 1) := dk_42 (dk_at dksX9_token_2 7 rfl rfl)
theorem dX9_token_54 : decode cX9_token 54 = .ok (.getfield 64, 3) := dk_180 0 64 (dk_at dksX9_token_2 8 rfl rfl)
theorem dX9_token_57 : decode cX9_token 57 = .ok (.putfield 58, 3) := dk_181 0 58 (dk_at dksX9_token_2 11 rfl rfl)
theorem dX9_token_60 : decode cX9_token 60 = .ok (.aload_n 0, 1) := dk_42 (dk_at dksX9_token_2 14 rfl rfl)
theorem dX9_token_61 : decode cX9_token 61 = .ok (.getfield 64, 3) := dk_180 0 64 (dk_at dksX9_token_2 15 rfl rfl)
theorem dX9_token_64 : decode cX9_token 64 = .ok (.aload_n 0, 1) := dk_42 (dk_at dksX9_token_2 18 rfl rfl)
theorem dX9_token_65 : decode cX9_token 65 = .ok (.getfield 61, 3) := dk_180 0 61 (dk_at dksX9_token_2 19 rfl rfl)
theorem dX9_token_68 : decode cX9_token 68 = .ok (.if_icmp .ne 11, 3) := dk_160 0 11 (dk_at dksX9_token_3 0 rfl rfl)
theorem dX9_token_71 : decode cX9_token 71 = .ok (.aload_n 0, 1) := dk_42 (dk_at dksX9_token_3 3 rfl rfl)
theorem dX9_token_72 : decode cX9_token 72 = .ok (.iconst 0, 1) := dk_3 (dk_at dksX9_token_3 4 rfl rfl)
theorem dX9_token_73 : decode cX9_token 73 = .ok (.putfield 67, 3) := dk_181 0 67 (dk_at dksX9_token_3 5 rfl rfl)
theorem dX9_token_76 : decode cX9_token 76 = .ok (.goto 233, 3) := dk_167 0 233 (dk_at dksX9_token_3 8 rfl rfl)
theorem dX9_token_79 : decode cX9_token 79 = .ok (.aload_n 0, 1) := dk_42 (dk_at dksX9_token_3 11 rfl rfl)
theorem dX9_token_80 : decode cX9_token 80 = .ok (.aload_n 0, 1) := dk_42 (dk_at dksX9_token_3 12 rfl rfl)
theorem dX9_token_81 : decode cX9_token 81 = .ok (.getfield 64, 3) := dk_180 0 64 (dk_at dksX9_token_3 13 rfl rfl)
theorem dX9_token_84 : decode cX9_token 84 = .ok (.invokevirtual 70, 3) := dk_182 0 70 (dk_at dksX9_token_3 16 rfl rfl)
theorem dX9_token_87 : decode cX9_token 87 = .ok (.ifCond .eq 104, 3) := dk_153 0 104 (dk_at dksX9_token_3 19 rfl rfl)
theorem dX9_token_90 : decode cX9_token 90 = .ok (.aload_n 0, 1) := dk_42 (dk_at dksX9_token_3 22 rfl rfl)
theorem dX9_token_91 : decode cX9_token 91 = .ok (.aload_n 0, 1) := dk_42 (dk_at dksX9_token_3 23 rfl rfl)
theorem dX9_token_92 : decode cX9_token 92 = .ok (.getfield 64, 3) := dk_180 0 64 (dk_at dksX9_token_4 0 rfl rfl)
theorem dX9_token_95 : decode cX9_token 95 = .ok (.invokevirtual 70, 3) := dk_182 0 70 (dk_at dksX9_token_4 3 rfl rfl)
theorem dX9_token_98 : decode cX9_token 98 = .ok (.ifCond .eq 16, 3) := dk_153 0 16 (dk_at dksX9_token_4 6 rfl rfl)
theorem dX9_token_101 : decode cX9_token 101 = .ok (.aload_n 0, 1) := dk_42 (dk_at dksX9_token_4 9 rfl rfl)
theorem dX9_token_102 : decode cX9_token 102 = .ok (.dup, 1) := dk_89 (dk_at dksX9_token_4 10 rfl rfl)
theorem dX9_token_103 : decode cX9_token 103 = .ok (.getfield 64, 3) := dk_180 0 64 (dk_at dksX9_token_4 11 rfl rfl)
theorem dX9_token_106 : decode cX9_token 106 = .ok (.iconst 1, 1) := dk_4 (dk_at dksX9_token_4 14 rfl rfl)
theorem dX9_token_107 : decode cX9_token 107 = .ok (.iadd, 1) := dk_96 (dk_at dksX9_token_4 15 rfl rfl)
theorem dX9_token_108 : decode cX9_token 108 = .ok (.putfield 64, 3) := dk_181 0 64 (dk_at dksX9_token_4 16 rfl rfl)
theorem dX9_token_111 : decode cX9_token 111 = .ok (.goto (-21), 3) := dk_167 255 235 (dk_at dksX9_token_4 19 rfl rfl)
theorem dX9_token_114 : decode cX9_token 114 = .ok (.aload_n 0, 1) := dk_42 (dk_at dksX9_token_4 22 rfl rfl)
theorem dX9_token_115 : decode cX9_token 115 = .ok (.aload_n 0, 1) := dk_42 (dk_at dksX9_token_4 23 rfl rfl)
theorem dX9_token_116 : decode cX9_token 116 = .ok (.aload_n 0, 1) := dk_42 (dk_at dksX9_token_5 0 rfl rfl)
theorem dX9_token_117 : decode cX9_token 117 = .ok (.getfield 58, 3) := dk_180 0 58 (dk_at dksX9_token_5 1 rfl rfl)
theorem dX9_token_120 : decode cX9_token 120 = .ok (.aload_n 0, 1) := dk_42 (dk_at dksX9_token_5 4 rfl rfl)
theorem dX9_token_121 : decode cX9_token 121 = .ok (.getfield 64, 3) := dk_180 0 64 (dk_at dksX9_token_5 5 rfl rfl)
theorem dX9_token_124 : decode cX9_token 124 = .ok (.invokevirtual 74, 3) := dk_182 0 74 (dk_at dksX9_token_5 8 rfl rfl)
theorem dX9_token_127 : decode cX9_token 127 = .ok (.putfield 78, 3) := dk_181 0 78 (dk_at dksX9_token_5 11 rfl rfl)
theorem dX9_token_130 : decode cX9_token 130 = .ok (.aload_n 0, 1) := dk_42 (dk_at dksX9_token_5 14 rfl rfl)
theorem dX9_token_131 : decode cX9_token 131 = .ok (.aload_n 0, 1) := dk_42 (dk_at dksX9_token_5 15 rfl rfl)
theorem dX9_token_132 : decode cX9_token 132 = .ok (.getfield 78, 3) := dk_180 0 78 (dk_at dksX9_token_5 16 rfl rfl)
theorem dX9_token_135 : decode cX9_token 135 = .ok (.ifCond .lt 7, 3) := dk_155 0 7 (dk_at dksX9_token_5 19 rfl rfl)
theorem dX9_token_138 : decode cX9_token 138 = .ok (.iconst 1, 1) := dk_4 (dk_at dksX9_token_5 22 rfl rfl)
theorem dX9_token_139 : decode cX9_token 139 = .ok (.goto 22, 3) := dk_167 0 22 (dk_at dksX9_token_6 0 rfl rfl)
theorem dX9_token_142 : decode cX9_token 142 = .ok (.aload_n 0, 1) := dk_42 (dk_at dksX9_token_6 3 rfl rfl)
theorem dX9_token_143 : decode cX9_token 143 = .ok (.getfield 64, 3) := dk_180 0 64 (dk_at dksX9_token_6 4 rfl rfl)
theorem dX9_token_146 : decode cX9_token 146 = .ok (.aload_n 0, 1) := dk_42 (dk_at dksX9_token_6 7 rfl rfl)
theorem dX9_token_147 : decode cX9_token 147 = .ok (.getfield 58, 3) := dk_180 0 58 (dk_at dksX9_token_6 8 rfl rfl)
theorem dX9_token_150 : decode cX9_token 150 = .ok (.isub, 1) := dk_100 (dk_at dksX9_token_6 11 rfl rfl)
theorem dX9_token_151 : decode cX9_token 151 = .ok (.bipush 6, 2) := dk_16 6 (dk_at dksX9_token_6 12 rfl rfl)
theorem dX9_token_153 : decode cX9_token 153 = .ok (.if_icmp .le 7, 3) := dk_164 0 7 (dk_at dksX9_token_6 14 rfl rfl)
theorem dX9_token_156 : decode cX9_token 156 = .ok (.iconst 5, 1) := dk_8 (dk_at dksX9_token_6 17 rfl rfl)
theorem dX9_token_157 : decode cX9_token 157 = .ok (.goto 4, 3) := dk_167 0 4 (dk_at dksX9_token_6 18 rfl rfl)
theorem dX9_token_160 : decode cX9_token 160 = .ok (.iconst 2, 1) := dk_5 (dk_at dksX9_token_6 21 rfl rfl)
theorem dX9_token_161 : decode cX9_token 161 = .ok (.putfield 67, 3) := dk_181 0 67 (dk_at dksX9_token_7 0 rfl rfl)
theorem dX9_token_164 : decode cX9_token 164 = .ok (.aload_n 0, 1) := dk_42 (dk_at dksX9_token_7 3 rfl rfl)
theorem dX9_token_165 : decode cX9_token 165 = .ok (.getfield 67, 3) := dk_180 0 67 (dk_at dksX9_token_7 4 rfl rfl)
theorem dX9_token_168 : decode cX9_token 168 = .ok (.iconst 2, 1) := dk_5 (dk_at dksX9_token_7 7 rfl rfl)
theorem dX9_token_169 : decode cX9_token 169 = .ok (.if_icmp .ne 140, 3) := dk_160 0 140 (dk_at dksX9_token_7 8 rfl rfl)
theorem dX9_token_172 : decode cX9_token 172 = .ok (.aload_n 0, 1) := dk_42 (dk_at dksX9_token_7 11 rfl rfl)
theorem dX9_token_173 : decode cX9_token 173 = .ok (.aload_n 0, 1) := dk_42 (dk_at dksX9_token_7 12 rfl rfl)
theorem dX9_token_174 : decode cX9_token 174 = .ok (.aload_n 0, 1) := dk_42 (dk_at dksX9_token_7 13 rfl rfl)
theorem dX9_token_175 : decode cX9_token 175 = .ok (.getfield 58, 3) := dk_180 0 58 (dk_at dksX9_token_7 14 rfl rfl)
theorem dX9_token_178 : decode cX9_token 178 = .ok (.aload_n 0, 1) := dk_42 (dk_at dksX9_token_7 17 rfl rfl)
theorem dX9_token_179 : decode cX9_token 179 = .ok (.getfield 64, 3) := dk_180 0 64 (dk_at dksX9_token_7 18 rfl rfl)
theorem dX9_token_182 : decode cX9_token 182 = .ok (.invokevirtual 81, 3) := dk_182 0 81 (dk_at dksX9_token_7 21 rfl rfl)
theorem dX9_token_185 : decode cX9_token 185 = .ok (.putfield 78, 3) := dk_181 0 78 (dk_at dksX9_token_8 0 rfl rfl)
theorem dX9_token_188 : decode cX9_token 188 = .ok (.goto 121, 3) := dk_167 0 121 (dk_at dksX9_token_8 3 rfl rfl)
theorem dX9_token_191 : decode cX9_token 191 = .ok (.aload_n 0, 1) := dk_42 (dk_at dksX9_token_8 6 rfl rfl)
theorem dX9_token_192 : decode cX9_token 192 = .ok (.aload_n 0, 1) := dk_42 (dk_at dksX9_token_8 7 rfl rfl)
theorem dX9_token_193 : decode cX9_token 193 = .ok (.getfield 64, 3) := dk_180 0 64 (dk_at dksX9_token_8 8 rfl rfl)
theorem dX9_token_196 : decode cX9_token 196 = .ok (.invokevirtual 84, 3) := dk_182 0 84 (dk_at dksX9_token_8 11 rfl rfl)
theorem dX9_token_199 : decode cX9_token 199 = .ok (.ifCond .eq 77, 3) := dk_153 0 77 (dk_at dksX9_token_8 14 rfl rfl)
theorem dX9_token_202 : decode cX9_token 202 = .ok (.aload_n 0, 1) := dk_42 (dk_at dksX9_token_8 17 rfl rfl)
theorem dX9_token_203 : decode cX9_token 203 = .ok (.iconst 3, 1) := dk_6 (dk_at dksX9_token_8 18 rfl rfl)
theorem dX9_token_204 : decode cX9_token 204 = .ok (.putfield 67, 3) := dk_181 0 67 (dk_at dksX9_token_8 19 rfl rfl)
theorem dX9_token_207 : decode cX9_token 207 = .ok (.aload_n 0, 1) := dk_42 (dk_at dksX9_token_8 22 rfl rfl)
theorem dX9_token_208 : decode cX9_token 208 = .ok (.iconst 0, 1) := dk_3 (dk_at dksX9_token_8 23 rfl rfl)
theorem dX9_token_209 : decode cX9_token 209 = .ok (.putfield 78, 3) := dk_181 0 78 (dk_at dksX9_token_9 0 rfl rfl)
theorem dX9_token_212 : decode cX9_token 212 = .ok (.aload_n 0, 1) := dk_42 (dk_at dksX9_token_9 3 rfl rfl)
theorem dX9_token_213 : decode cX9_token 213 = .ok (.aload_n 0, 1) := dk_42 (dk_at dksX9_token_9 4 rfl rfl)
theorem dX9_token_214 : decode cX9_token 214 = .ok (.getfield 64, 3) := dk_180 0 64 (dk_at dksX9_token_9 5 rfl rfl)
theorem dX9_token_217 : decode cX9_token 217 = .ok (.invokevirtual 84, 3) := dk_182 0 84 (dk_at dksX9_token_9 8 rfl rfl)
theorem dX9_token_220 : decode cX9_token 220 = .ok (.ifCond .eq 89, 3) := dk_153 0 89 (dk_at dksX9_token_9 11 rfl rfl)
theorem dX9_token_223 : decode cX9_token 223 = .ok (.aload_n 0, 1) := dk_42 (dk_at dksX9_token_9 14 rfl rfl)
theorem dX9_token_224 : decode cX9_token 224 = .ok (.aload_n 0, 1) := dk_42 (dk_at dksX9_token_9 15 rfl rfl)
theorem dX9_token_225 : decode cX9_token 225 = .ok (.getfield 78, 3) := dk_180 0 78 (dk_at dksX9_token_9 16 rfl rfl)
theorem dX9_token_228 : decode cX9_token 228 = .ok (.ldc 87, 2) := dk_18 87 (dk_at dksX9_token_9 19 rfl rfl)
theorem dX9_token_230 : decode cX9_token 230 = .ok (.if_icmp .le 10, 3) := dk_164 0 10 (dk_at dksX9_token_9 21 rfl rfl)
theorem dX9_token_233 : decode cX9_token 233 = .ok (.aload_n 0, 1) := dk_42 (dk_at dksX9_token_10 0 rfl rfl)
theorem dX9_token_234 : decode cX9_token 234 = .ok (.getfield 78, 3) := dk_180 0 78 (dk_at dksX9_token_10 1 rfl rfl)
theorem dX9_token_237 : decode cX9_token 237 = .ok (.goto 23, 3) := dk_167 0 23 (dk_at dksX9_token_10 4 rfl rfl)
theorem dX9_token_240 : decode cX9_token 240 = .ok (.bipush 10, 2) := dk_16 10 (dk_at dksX9_token_10 7 rfl rfl)
theorem dX9_token_242 : decode cX9_token 242 = .ok (.aload_n 0, 1) := dk_42 (dk_at dksX9_token_10 9 rfl rfl)
theorem dX9_token_243 : decode cX9_token 243 = .ok (.getfield 78, 3) := dk_180 0 78 (dk_at dksX9_token_10 10 rfl rfl)
theorem dX9_token_246 : decode cX9_token 246 = .ok (.imul, 1) := dk_104 (dk_at dksX9_token_10 13 rfl rfl)
theorem dX9_token_247 : decode cX9_token 247 = .ok (.aload_n 0, 1) := dk_42 (dk_at dksX9_token_10 14 rfl rfl)
theorem dX9_token_248 : decode cX9_token 248 = .ok (.getfield 7, 3) := dk_180 0 7 (dk_at dksX9_token_10 15 rfl rfl)
theorem dX9_token_251 : decode cX9_token 251 = .ok (.aload_n 0, 1) := dk_42 (dk_at dksX9_token_10 18 rfl rfl)
theorem dX9_token_252 : decode cX9_token 252 = .ok (.getfield 64, 3) := dk_180 0 64 (dk_at dksX9_token_10 19 rfl rfl)
theorem dX9_token_255 : decode cX9_token 255 = .ok (.iaload, 1) := dk_46 (dk_at dksX9_token_10 22 rfl rfl)
theorem dX9_token_256 : decode cX9_token 256 = .ok (.iadd, 1) := dk_96 (dk_at dksX9_token_10 23 rfl rfl)
theorem dX9_token_257 : decode cX9_token 257 = .ok (.bipush 48, 2) := dk_16 48 (dk_at dksX9_token_11 0 rfl rfl)
theorem dX9_token_259 : decode cX9_token 259 = .ok (.isub, 1) := dk_100 (dk_at dksX9_token_11 2 rfl rfl)
theorem dX9_token_260 : decode cX9_token 260 = .ok (.putfield 78, 3) := dk_181 0 78 (dk_at dksX9_token_11 3 rfl rfl)
theorem dX9_token_263 : decode cX9_token 263 = .ok (.aload_n 0, 1) := dk_42 (dk_at dksX9_token_11 6 rfl rfl)
theorem dX9_token_264 : decode cX9_token 264 = .ok (.dup, 1) := dk_89 (dk_at dksX9_token_11 7 rfl rfl)
theorem dX9_token_265 : decode cX9_token 265 = .ok (.getfield 64, 3) := dk_180 0 64 (dk_at dksX9_token_11 8 rfl rfl)
theorem dX9_token_268 : decode cX9_token 268 = .ok (.iconst 1, 1) := dk_4 (dk_at dksX9_token_11 11 rfl rfl)
theorem dX9_token_269 : decode cX9_token 269 = .ok (.iadd, 1) := dk_96 (dk_at dksX9_token_11 12 rfl rfl)
theorem dX9_token_270 : decode cX9_token 270 = .ok (.putfield 64, 3) := dk_181 0 64 (dk_at dksX9_token_11 13 rfl rfl)
theorem dX9_token_273 : decode cX9_token 273 = .ok (.goto (-61), 3) := dk_167 255 195 (dk_at dksX9_token_11 16 rfl rfl)
theorem dX9_token_276 : decode cX9_token 276 = .ok (.aload_n 0, 1) := dk_42 (dk_at dksX9_token_11 19 rfl rfl)
theorem dX9_token_277 : decode cX9_token 277 = .ok (.aload_n 0, 1) := dk_42 (dk_at dksX9_token_11 20 rfl rfl)
theorem dX9_token_278 : decode cX9_token 278 = .ok (.getfield 7, 3) := dk_180 0 7 (dk_at dksX9_token_11 21 rfl rfl)
theorem dX9_token_281 : decode cX9_token 281 = .ok (.aload_n 0, 1) := dk_42 (dk_at dksX9_token_12 0 rfl rfl)
theorem dX9_token_282 : decode cX9_token 282 = .ok (.getfield 64, 3) := dk_180 0 64 (dk_at dksX9_token_12 1 rfl rfl)
theorem dX9_token_285 : decode cX9_token 285 = .ok (.iaload, 1) := dk_46 (dk_at dksX9_token_12 4 rfl rfl)
theorem dX9_token_286 : decode cX9_token 286 = .ok (.bipush 59, 2) := dk_16 59 (dk_at dksX9_token_12 5 rfl rfl)
theorem dX9_token_288 : decode cX9_token 288 = .ok (.if_icmp .ne 7, 3) := dk_160 0 7 (dk_at dksX9_token_12 7 rfl rfl)
theorem dX9_token_291 : decode cX9_token 291 = .ok (.iconst 4, 1) := dk_7 (dk_at dksX9_token_12 10 rfl rfl)
theorem dX9_token_292 : decode cX9_token 292 = .ok (.goto 4, 3) := dk_167 0 4 (dk_at dksX9_token_12 11 rfl rfl)
theorem dX9_token_295 : decode cX9_token 295 = .ok (.iconst 5, 1) := dk_8 (dk_at dksX9_token_12 14 rfl rfl)
theorem dX9_token_296 : decode cX9_token 296 = .ok (.putfield 67, 3) := dk_181 0 67 (dk_at dksX9_token_12 15 rfl rfl)
theorem dX9_token_299 : decode cX9_token 299 = .ok (.aload_n 0, 1) := dk_42 (dk_at dksX9_token_12 18 rfl rfl)
theorem dX9_token_300 : decode cX9_token 300 = .ok (.dup, 1) := dk_89 (dk_at dksX9_token_12 19 rfl rfl)
theorem dX9_token_301 : decode cX9_token 301 = .ok (.getfield 64, 3) := dk_180 0 64 (dk_at dksX9_token_12 20 rfl rfl)
theorem dX9_token_304 : decode cX9_token 304 = .ok (.iconst 1, 1) := dk_4 (dk_at dksX9_token_12 23 rfl rfl)
theorem dX9_token_305 : decode cX9_token 305 = .ok (.iadd, 1) := dk_96 (dk_at dksX9_token_13 0 rfl rfl)
theorem dX9_token_306 : decode cX9_token 306 = .ok (.putfield 64, 3) := dk_181 0 64 (dk_at dksX9_token_13 1 rfl rfl)
theorem dX9_token_309 : decode cX9_token 309 = .ok (.return_, 1) := dk_177 (dk_at dksX9_token_13 4 rfl rfl)
abbrev cX9_isSmall : ByteArray := prog_17_method_7_code
def yX9_isSmall : MethodName := ⟨RX9, "isSmall", "(I)Z"⟩
def dkwX9_isSmall_1 : List UInt8 := [46, 16, 122, 163, 0, 7, 4, 167, 0, 4, 3, 172]
abbrev dktX9_isSmall_1 : List UInt8 := dkwX9_isSmall_1 ++ []
def dkwX9_isSmall_0 : List UInt8 := [27, 42, 180, 0, 61, 162, 0, 29, 42, 180, 0, 7, 27, 46, 16, 97, 161, 0, 18, 42, 180, 0, 7, 27]
abbrev dktX9_isSmall_0 : List UInt8 := dkwX9_isSmall_0 ++ dktX9_isSmall_1
theorem dksX9_isSmall_0 : cX9_isSmall.data.toList.drop 0 = dktX9_isSmall_0 := by decide +kernel
theorem dksX9_isSmall_1 : cX9_isSmall.data.toList.drop 24 = dktX9_isSmall_1 := dk_seg dksX9_isSmall_0 24 rfl rfl
theorem dX9_isSmall_0 : decode cX9_isSmall 0 = .ok (.iload_n 1, 1) := dk_27 (dk_at dksX9_isSmall_0 0 rfl rfl)
theorem dX9_isSmall_1 : decode cX9_isSmall 1 = .ok (.aload_n 0, 1) := dk_42 (dk_at dksX9_isSmall_0 1 rfl rfl)
theorem dX9_isSmall_2 : decode cX9_isSmall 2 = .ok (.getfield 61, 3) := dk_180 0 61 (dk_at dksX9_isSmall_0 2 rfl rfl)
theorem dX9_isSmall_5 : decode cX9_isSmall 5 = .ok (.if_icmp .ge 29, 3) := dk_162 0 29 (dk_at dksX9_isSmall_0 5 rfl rfl)
theorem dX9_isSmall_8 : decode cX9_isSmall 8 = .ok (.aload_n 0, 1) := dk_42 (dk_at dksX9_isSmall_0 8 rfl rfl)
theorem dX9_isSmall_9 : decode cX9_isSmall 9 = .ok (.getfield 7, 3) := dk_180 0 7 (dk_at dksX9_isSmall_0 9 rfl rfl)
theorem dX9_isSmall_12 : decode cX9_isSmall 12 = .ok (.iload_n 1, 1) := dk_27 (dk_at dksX9_isSmall_0 12 rfl rfl)
theorem dX9_isSmall_13 : decode cX9_isSmall 13 = .ok (.iaload, 1) := dk_46 (dk_at dksX9_isSmall_0 13 rfl rfl)
theorem dX9_isSmall_14 : decode cX9_isSmall 14 = .ok (.bipush 97, 2) := dk_16 97 (dk_at dksX9_isSmall_0 14 rfl rfl)
theorem dX9_isSmall_16 : decode cX9_isSmall 16 = .ok (.if_icmp .lt 18, 3) := dk_161 0 18 (dk_at dksX9_isSmall_0 16 rfl rfl)
theorem dX9_isSmall_19 : decode cX9_isSmall 19 = .ok (.aload_n 0, 1) := dk_42 (dk_at dksX9_isSmall_0 19 rfl rfl)
theorem dX9_isSmall_20 : decode cX9_isSmall 20 = .ok (.getfield 7, 3) := dk_180 0 7 (dk_at dksX9_isSmall_0 20 rfl rfl)
theorem dX9_isSmall_23 : decode cX9_isSmall 23 = .ok (.iload_n 1, 1) := dk_27 (dk_at dksX9_isSmall_0 23 rfl rfl)
theorem dX9_isSmall_24 : decode cX9_isSmall 24 = .ok (.iaload, 1) := dk_46 (dk_at dksX9_isSmall_1 0 rfl rfl)
theorem dX9_isSmall_25 : decode cX9_isSmall 25 = .ok (.bipush 122, 2) := dk_16 122 (dk_at dksX9_isSmall_1 1 rfl rfl)
theorem dX9_isSmall_27 : decode cX9_isSmall 27 = .ok (.if_icmp .gt 7, 3) := dk_163 0 7 (dk_at dksX9_isSmall_1 3 rfl rfl)
theorem dX9_isSmall_30 : decode cX9_isSmall 30 = .ok (.iconst 1, 1) := dk_4 (dk_at dksX9_isSmall_1 6 rfl rfl)
theorem dX9_isSmall_31 : decode cX9_isSmall 31 = .ok (.goto 4, 3) := dk_167 0 4 (dk_at dksX9_isSmall_1 7 rfl rfl)
theorem dX9_isSmall_34 : decode cX9_isSmall 34 = .ok (.iconst 0, 1) := dk_3 (dk_at dksX9_isSmall_1 10 rfl rfl)
theorem dX9_isSmall_35 : decode cX9_isSmall 35 = .ok (.ireturn, 1) := dk_172 (dk_at dksX9_isSmall_1 11 rfl rfl)
abbrev cX9_wordAt : ByteArray := prog_17_method_6_code
def yX9_wordAt : MethodName := ⟨RX9, "wordAt", "(II)I"⟩
def dkwX9_wordAt_5 : List UInt8 := [96, 96, 54, 4, 132, 3, 1, 167, 255, 138, 2, 172]
abbrev dktX9_wordAt_5 : List UInt8 := dkwX9_wordAt_5 ++ []
def dkwX9_wordAt_4 : List UInt8 := [167, 0, 4, 3, 54, 6, 132, 7, 1, 167, 255, 212, 21, 6, 153, 0, 5, 29, 172, 21, 4, 21, 5, 4]
abbrev dktX9_wordAt_4 : List UInt8 := dkwX9_wordAt_4 ++ dktX9_wordAt_5
def dkwX9_wordAt_3 : List UInt8 := [180, 0, 13, 21, 4, 21, 7, 96, 46, 42, 180, 0, 7, 27, 21, 7, 96, 46, 160, 0, 7, 4]
abbrev dktX9_wordAt_3 : List UInt8 := dkwX9_wordAt_3 ++ dktX9_wordAt_4
def dkwX9_wordAt_2 : List UInt8 := [167, 0, 4, 3, 54, 6, 3, 54, 7, 21, 7, 21, 5, 162, 0, 43, 21, 6, 153, 0, 38, 42]
abbrev dktX9_wordAt_2 : List UInt8 := dkwX9_wordAt_2 ++ dktX9_wordAt_3
def dkwX9_wordAt_1 : List UInt8 := [21, 5, 96, 46, 16, 32, 159, 0, 9, 132, 5, 1, 167, 255, 238, 21, 5, 28, 27, 100, 160, 0, 7, 4]
abbrev dktX9_wordAt_1 : List UInt8 := dkwX9_wordAt_1 ++ dktX9_wordAt_2
def dkwX9_wordAt_0 : List UInt8 := [3, 62, 3, 54, 4, 21, 4, 42, 180, 0, 13, 190, 162, 0, 114, 3, 54, 5, 42, 180, 0, 13, 21, 4]
abbrev dktX9_wordAt_0 : List UInt8 := dkwX9_wordAt_0 ++ dktX9_wordAt_1
theorem dksX9_wordAt_0 : cX9_wordAt.data.toList.drop 0 = dktX9_wordAt_0 := by decide +kernel
theorem dksX9_wordAt_1 : cX9_wordAt.data.toList.drop 24 = dktX9_wordAt_1 := dk_seg dksX9_wordAt_0 24 rfl rfl
theorem dksX9_wordAt_2 : cX9_wordAt.data.toList.drop 48 = dktX9_wordAt_2 := dk_seg dksX9_wordAt_1 24 rfl rfl
theorem dksX9_wordAt_3 : cX9_wordAt.data.toList.drop 70 = dktX9_wordAt_3 := dk_seg dksX9_wordAt_2 22 rfl rfl
theorem dksX9_wordAt_4 : cX9_wordAt.data.toList.drop 92 = dktX9_wordAt_4 := dk_seg dksX9_wordAt_3 22 rfl rfl
theorem dksX9_wordAt_5 : cX9_wordAt.data.toList.drop 116 = dktX9_wordAt_5 := dk_seg dksX9_wordAt_4 24 rfl rfl
theorem dX9_wordAt_0 : decode cX9_wordAt 0 = .ok (.iconst 0, 1) := dk_3 (dk_at dksX9_wordAt_0 0 rfl rfl)
theorem dX9_wordAt_1 : decode cX9_wordAt 1 = .ok (.istore_n 3, 1) := dk_62 (dk_at dksX9_wordAt_0 1 rfl rfl)
theorem dX9_wordAt_2 : decode cX9_wordAt 2 = .ok (.iconst 0, 1) := dk_3 (dk_at dksX9_wordAt_0 2 rfl rfl)
theorem dX9_wordAt_3 : decode cX9_wordAt 3 = .ok (.istore 4, 2) := dk_54 4 (dk_at dksX9_wordAt_0 3 rfl rfl)
theorem dX9_wordAt_5 : decode cX9_wordAt 5 = .ok (.iload 4, 2) := dk_21 4 (dk_at dksX9_wordAt_0 5 rfl rfl)
theorem dX9_wordAt_7 : decode cX9_wordAt 7 = .ok (.aload_n 0, 1) := dk_42 (dk_at dksX9_wordAt_0 7 rfl rfl)
theorem dX9_wordAt_8 : decode cX9_wordAt 8 = .ok (.getfield 13, 3) := dk_180 0 13 (dk_at dksX9_wordAt_0 8 rfl rfl)
theorem dX9_wordAt_11 : decode cX9_wordAt 11 = .ok (.arraylength, 1) := dk_190 (dk_at dksX9_wordAt_0 11 rfl rfl)
theorem dX9_wordAt_12 : decode cX9_wordAt 12 = .ok (.if_icmp .ge 114, 3) := dk_162 0 114 (dk_at dksX9_wordAt_0 12 rfl rfl)
theorem dX9_wordAt_15 : decode cX9_wordAt 15 = .ok (.iconst 0, 1) := dk_3 (dk_at dksX9_wordAt_0 15 rfl rfl)
theorem dX9_wordAt_16 : decode cX9_wordAt 16 = .ok (.istore 5, 2) := dk_54 5 (dk_at dksX9_wordAt_0 16 rfl rfl)
theorem dX9_wordAt_18 : decode cX9_wordAt 18 = .ok (.aload_n 0, 1) := dk_42 (dk_at dksX9_wordAt_0 18 rfl rfl)
theorem dX9_wordAt_19 : decode cX9_wordAt 19 = .ok (.getfield 13, 3) := dk_180 0 13 (dk_at dksX9_wordAt_0 19 rfl rfl)
theorem dX9_wordAt_22 : decode cX9_wordAt 22 = .ok (.iload 4, 2) := dk_21 4 (dk_at dksX9_wordAt_0 22 rfl rfl)
theorem dX9_wordAt_24 : decode cX9_wordAt 24 = .ok (.iload 5, 2) := dk_21 5 (dk_at dksX9_wordAt_1 0 rfl rfl)
theorem dX9_wordAt_26 : decode cX9_wordAt 26 = .ok (.iadd, 1) := dk_96 (dk_at dksX9_wordAt_1 2 rfl rfl)
theorem dX9_wordAt_27 : decode cX9_wordAt 27 = .ok (.iaload, 1) := dk_46 (dk_at dksX9_wordAt_1 3 rfl rfl)
theorem dX9_wordAt_28 : decode cX9_wordAt 28 = .ok (.bipush 32, 2) := dk_16 32 (dk_at dksX9_wordAt_1 4 rfl rfl)
theorem dX9_wordAt_30 : decode cX9_wordAt 30 = .ok (.if_icmp .eq 9, 3) := dk_159 0 9 (dk_at dksX9_wordAt_1 6 rfl rfl)
theorem dX9_wordAt_33 : decode cX9_wordAt 33 = .ok (.iinc 5 1, 3) := dk_132 5 1 (dk_at dksX9_wordAt_1 9 rfl rfl)
theorem dX9_wordAt_36 : decode cX9_wordAt 36 = .ok (.goto (-18), 3) := dk_167 255 238 (dk_at dksX9_wordAt_1 12 rfl rfl)
theorem dX9_wordAt_39 : decode cX9_wordAt 39 = .ok (.iload 5, 2) := dk_21 5 (dk_at dksX9_wordAt_1 15 rfl rfl)
theorem dX9_wordAt_41 : decode cX9_wordAt 41 = .ok (.iload_n 2, 1) := dk_28 (dk_at dksX9_wordAt_1 17 rfl rfl)
theorem dX9_wordAt_42 : decode cX9_wordAt 42 = .ok (.iload_n 1, 1) := dk_27 (dk_at dksX9_wordAt_1 18 rfl rfl)
theorem dX9_wordAt_43 : decode cX9_wordAt 43 = .ok (.isub, 1) := dk_100 (dk_at dksX9_wordAt_1 19 rfl rfl)
theorem dX9_wordAt_44 : decode cX9_wordAt 44 = .ok (.if_icmp .ne 7, 3) := dk_160 0 7 (dk_at dksX9_wordAt_1 20 rfl rfl)
theorem dX9_wordAt_47 : decode cX9_wordAt 47 = .ok (.iconst 1, 1) := dk_4 (dk_at dksX9_wordAt_1 23 rfl rfl)
theorem dX9_wordAt_48 : decode cX9_wordAt 48 = .ok (.goto 4, 3) := dk_167 0 4 (dk_at dksX9_wordAt_2 0 rfl rfl)
theorem dX9_wordAt_51 : decode cX9_wordAt 51 = .ok (.iconst 0, 1) := dk_3 (dk_at dksX9_wordAt_2 3 rfl rfl)
theorem dX9_wordAt_52 : decode cX9_wordAt 52 = .ok (.istore 6, 2) := dk_54 6 (dk_at dksX9_wordAt_2 4 rfl rfl)
theorem dX9_wordAt_54 : decode cX9_wordAt 54 = .ok (.iconst 0, 1) := dk_3 (dk_at dksX9_wordAt_2 6 rfl rfl)
theorem dX9_wordAt_55 : decode cX9_wordAt 55 = .ok (.istore 7, 2) := dk_54 7 (dk_at dksX9_wordAt_2 7 rfl rfl)
theorem dX9_wordAt_57 : decode cX9_wordAt 57 = .ok (.iload 7, 2) := dk_21 7 (dk_at dksX9_wordAt_2 9 rfl rfl)
theorem dX9_wordAt_59 : decode cX9_wordAt 59 = .ok (.iload 5, 2) := dk_21 5 (dk_at dksX9_wordAt_2 11 rfl rfl)
theorem dX9_wordAt_61 : decode cX9_wordAt 61 = .ok (.if_icmp .ge 43, 3) := dk_162 0 43 (dk_at dksX9_wordAt_2 13 rfl rfl)
theorem dX9_wordAt_64 : decode cX9_wordAt 64 = .ok (.iload 6, 2) := dk_21 6 (dk_at dksX9_wordAt_2 16 rfl rfl)
theorem dX9_wordAt_66 : decode cX9_wordAt 66 = .ok (.ifCond .eq 38, 3) := dk_153 0 38 (dk_at dksX9_wordAt_2 18 rfl rfl)
theorem dX9_wordAt_69 : decode cX9_wordAt 69 = .ok (.aload_n 0, 1) := dk_42 (dk_at dksX9_wordAt_2 21 rfl rfl)
theorem dX9_wordAt_70 : decode cX9_wordAt 70 = .ok (.getfield 13, 3) := dk_180 0 13 (dk_at dksX9_wordAt_3 0 rfl rfl)
theorem dX9_wordAt_73 : decode cX9_wordAt 73 = .ok (.iload 4, 2) := dk_21 4 (dk_at dksX9_wordAt_3 3 rfl rfl)
theorem dX9_wordAt_75 : decode cX9_wordAt 75 = .ok (.iload 7, 2) := dk_21 7 (dk_at dksX9_wordAt_3 5 rfl rfl)
theorem dX9_wordAt_77 : decode cX9_wordAt 77 = .ok (.iadd, 1) := dk_96 (dk_at dksX9_wordAt_3 7 rfl rfl)
theorem dX9_wordAt_78 : decode cX9_wordAt 78 = .ok (.iaload, 1) := dk_46 (dk_at dksX9_wordAt_3 8 rfl rfl)
theorem dX9_wordAt_79 : decode cX9_wordAt 79 = .ok (.aload_n 0, 1) := dk_42 (dk_at dksX9_wordAt_3 9 rfl rfl)
theorem dX9_wordAt_80 : decode cX9_wordAt 80 = .ok (.getfield 7, 3) := dk_180 0 7 (dk_at dksX9_wordAt_3 10 rfl rfl)
theorem dX9_wordAt_83 : decode cX9_wordAt 83 = .ok (.iload_n 1, 1) := dk_27 (dk_at dksX9_wordAt_3 13 rfl rfl)
theorem dX9_wordAt_84 : decode cX9_wordAt 84 = .ok (.iload 7, 2) := dk_21 7 (dk_at dksX9_wordAt_3 14 rfl rfl)
theorem dX9_wordAt_86 : decode cX9_wordAt 86 = .ok (.iadd, 1) := dk_96 (dk_at dksX9_wordAt_3 16 rfl rfl)
theorem dX9_wordAt_87 : decode cX9_wordAt 87 = .ok (.iaload, 1) := dk_46 (dk_at dksX9_wordAt_3 17 rfl rfl)
theorem dX9_wordAt_88 : decode cX9_wordAt 88 = .ok (.if_icmp .ne 7, 3) := dk_160 0 7 (dk_at dksX9_wordAt_3 18 rfl rfl)
theorem dX9_wordAt_91 : decode cX9_wordAt 91 = .ok (.iconst 1, 1) := dk_4 (dk_at dksX9_wordAt_3 21 rfl rfl)
theorem dX9_wordAt_92 : decode cX9_wordAt 92 = .ok (.goto 4, 3) := dk_167 0 4 (dk_at dksX9_wordAt_4 0 rfl rfl)
theorem dX9_wordAt_95 : decode cX9_wordAt 95 = .ok (.iconst 0, 1) := dk_3 (dk_at dksX9_wordAt_4 3 rfl rfl)
theorem dX9_wordAt_96 : decode cX9_wordAt 96 = .ok (.istore 6, 2) := dk_54 6 (dk_at dksX9_wordAt_4 4 rfl rfl)
theorem dX9_wordAt_98 : decode cX9_wordAt 98 = .ok (.iinc 7 1, 3) := dk_132 7 1 (dk_at dksX9_wordAt_4 6 rfl rfl)
theorem dX9_wordAt_101 : decode cX9_wordAt 101 = .ok (.goto (-44), 3) := dk_167 255 212 (dk_at dksX9_wordAt_4 9 rfl rfl)
theorem dX9_wordAt_104 : decode cX9_wordAt 104 = .ok (.iload 6, 2) := dk_21 6 (dk_at dksX9_wordAt_4 12 rfl rfl)
theorem dX9_wordAt_106 : decode cX9_wordAt 106 = .ok (.ifCond .eq 5, 3) := dk_153 0 5 (dk_at dksX9_wordAt_4 14 rfl rfl)
theorem dX9_wordAt_109 : decode cX9_wordAt 109 = .ok (.iload_n 3, 1) := dk_29 (dk_at dksX9_wordAt_4 17 rfl rfl)
theorem dX9_wordAt_110 : decode cX9_wordAt 110 = .ok (.ireturn, 1) := dk_172 (dk_at dksX9_wordAt_4 18 rfl rfl)
theorem dX9_wordAt_111 : decode cX9_wordAt 111 = .ok (.iload 4, 2) := dk_21 4 (dk_at dksX9_wordAt_4 19 rfl rfl)
theorem dX9_wordAt_113 : decode cX9_wordAt 113 = .ok (.iload 5, 2) := dk_21 5 (dk_at dksX9_wordAt_4 21 rfl rfl)
theorem dX9_wordAt_115 : decode cX9_wordAt 115 = .ok (.iconst 1, 1) := dk_4 (dk_at dksX9_wordAt_4 23 rfl rfl)
theorem dX9_wordAt_116 : decode cX9_wordAt 116 = .ok (.iadd, 1) := dk_96 (dk_at dksX9_wordAt_5 0 rfl rfl)
theorem dX9_wordAt_117 : decode cX9_wordAt 117 = .ok (.iadd, 1) := dk_96 (dk_at dksX9_wordAt_5 1 rfl rfl)
theorem dX9_wordAt_118 : decode cX9_wordAt 118 = .ok (.istore 4, 2) := dk_54 4 (dk_at dksX9_wordAt_5 2 rfl rfl)
theorem dX9_wordAt_120 : decode cX9_wordAt 120 = .ok (.iinc 3 1, 3) := dk_132 3 1 (dk_at dksX9_wordAt_5 4 rfl rfl)
theorem dX9_wordAt_123 : decode cX9_wordAt 123 = .ok (.goto (-118), 3) := dk_167 255 138 (dk_at dksX9_wordAt_5 7 rfl rfl)
theorem dX9_wordAt_126 : decode cX9_wordAt 126 = .ok (.iconst (-1), 1) := dk_2 (dk_at dksX9_wordAt_5 10 rfl rfl)
theorem dX9_wordAt_127 : decode cX9_wordAt 127 = .ok (.ireturn, 1) := dk_172 (dk_at dksX9_wordAt_5 11 rfl rfl)
abbrev cX9_packed : ByteArray := prog_17_method_10_code
def yX9_packed : MethodName := ⟨RX9, "packed", "(II)I"⟩
def dkwX9_packed_1 : List UInt8 := [180, 0, 7, 21, 4, 46, 16, 96, 100, 167, 0, 4, 3, 128, 62, 132, 4, 1, 167, 255, 219, 29, 172]
abbrev dktX9_packed_1 : List UInt8 := dkwX9_packed_1 ++ []
def dkwX9_packed_0 : List UInt8 := [3, 62, 27, 54, 4, 21, 4, 27, 16, 6, 96, 162, 0, 34, 29, 8, 120, 21, 4, 28, 162, 0, 16, 42]
abbrev dktX9_packed_0 : List UInt8 := dkwX9_packed_0 ++ dktX9_packed_1
theorem dksX9_packed_0 : cX9_packed.data.toList.drop 0 = dktX9_packed_0 := by decide +kernel
theorem dksX9_packed_1 : cX9_packed.data.toList.drop 24 = dktX9_packed_1 := dk_seg dksX9_packed_0 24 rfl rfl
theorem dX9_packed_0 : decode cX9_packed 0 = .ok (.iconst 0, 1) := dk_3 (dk_at dksX9_packed_0 0 rfl rfl)
theorem dX9_packed_1 : decode cX9_packed 1 = .ok (.istore_n 3, 1) := dk_62 (dk_at dksX9_packed_0 1 rfl rfl)
theorem dX9_packed_2 : decode cX9_packed 2 = .ok (.iload_n 1, 1) := dk_27 (dk_at dksX9_packed_0 2 rfl rfl)
theorem dX9_packed_3 : decode cX9_packed 3 = .ok (.istore 4, 2) := dk_54 4 (dk_at dksX9_packed_0 3 rfl rfl)
theorem dX9_packed_5 : decode cX9_packed 5 = .ok (.iload 4, 2) := dk_21 4 (dk_at dksX9_packed_0 5 rfl rfl)
theorem dX9_packed_7 : decode cX9_packed 7 = .ok (.iload_n 1, 1) := dk_27 (dk_at dksX9_packed_0 7 rfl rfl)
theorem dX9_packed_8 : decode cX9_packed 8 = .ok (.bipush 6, 2) := dk_16 6 (dk_at dksX9_packed_0 8 rfl rfl)
theorem dX9_packed_10 : decode cX9_packed 10 = .ok (.iadd, 1) := dk_96 (dk_at dksX9_packed_0 10 rfl rfl)
theorem dX9_packed_11 : decode cX9_packed 11 = .ok (.if_icmp .ge 34, 3) := dk_162 0 34 (dk_at dksX9_packed_0 11 rfl rfl)
theorem dX9_packed_14 : decode cX9_packed 14 = .ok (.iload_n 3, 1) := dk_29 (dk_at dksX9_packed_0 14 rfl rfl)
theorem dX9_packed_15 : decode cX9_packed 15 = .ok (.iconst 5, 1) := dk_8 (dk_at dksX9_packed_0 15 rfl rfl)
theorem dX9_packed_16 : decode cX9_packed 16 = .ok (.ishl, 1) := dk_120 (dk_at dksX9_packed_0 16 rfl rfl)
theorem dX9_packed_17 : decode cX9_packed 17 = .ok (.iload 4, 2) := dk_21 4 (dk_at dksX9_packed_0 17 rfl rfl)
theorem dX9_packed_19 : decode cX9_packed 19 = .ok (.iload_n 2, 1) := dk_28 (dk_at dksX9_packed_0 19 rfl rfl)
theorem dX9_packed_20 : decode cX9_packed 20 = .ok (.if_icmp .ge 16, 3) := dk_162 0 16 (dk_at dksX9_packed_0 20 rfl rfl)
theorem dX9_packed_23 : decode cX9_packed 23 = .ok (.aload_n 0, 1) := dk_42 (dk_at dksX9_packed_0 23 rfl rfl)
theorem dX9_packed_24 : decode cX9_packed 24 = .ok (.getfield 7, 3) := dk_180 0 7 (dk_at dksX9_packed_1 0 rfl rfl)
theorem dX9_packed_27 : decode cX9_packed 27 = .ok (.iload 4, 2) := dk_21 4 (dk_at dksX9_packed_1 3 rfl rfl)
theorem dX9_packed_29 : decode cX9_packed 29 = .ok (.iaload, 1) := dk_46 (dk_at dksX9_packed_1 5 rfl rfl)
theorem dX9_packed_30 : decode cX9_packed 30 = .ok (.bipush 96, 2) := dk_16 96 (dk_at dksX9_packed_1 6 rfl rfl)
theorem dX9_packed_32 : decode cX9_packed 32 = .ok (.isub, 1) := dk_100 (dk_at dksX9_packed_1 8 rfl rfl)
theorem dX9_packed_33 : decode cX9_packed 33 = .ok (.goto 4, 3) := dk_167 0 4 (dk_at dksX9_packed_1 9 rfl rfl)
theorem dX9_packed_36 : decode cX9_packed 36 = .ok (.iconst 0, 1) := dk_3 (dk_at dksX9_packed_1 12 rfl rfl)
theorem dX9_packed_37 : decode cX9_packed 37 = .ok (.ior, 1) := dk_128 (dk_at dksX9_packed_1 13 rfl rfl)
theorem dX9_packed_38 : decode cX9_packed 38 = .ok (.istore_n 3, 1) := dk_62 (dk_at dksX9_packed_1 14 rfl rfl)
theorem dX9_packed_39 : decode cX9_packed 39 = .ok (.iinc 4 1, 3) := dk_132 4 1 (dk_at dksX9_packed_1 15 rfl rfl)
theorem dX9_packed_42 : decode cX9_packed 42 = .ok (.goto (-37), 3) := dk_167 255 219 (dk_at dksX9_packed_1 18 rfl rfl)
theorem dX9_packed_45 : decode cX9_packed 45 = .ok (.iload_n 3, 1) := dk_29 (dk_at dksX9_packed_1 21 rfl rfl)
theorem dX9_packed_46 : decode cX9_packed 46 = .ok (.ireturn, 1) := dk_172 (dk_at dksX9_packed_1 22 rfl rfl)
abbrev cX9_isDigit : ByteArray := prog_17_method_8_code
def yX9_isDigit : MethodName := ⟨RX9, "isDigit", "(I)Z"⟩
def dkwX9_isDigit_1 : List UInt8 := [46, 16, 57, 163, 0, 7, 4, 167, 0, 4, 3, 172]
abbrev dktX9_isDigit_1 : List UInt8 := dkwX9_isDigit_1 ++ []
def dkwX9_isDigit_0 : List UInt8 := [27, 42, 180, 0, 61, 162, 0, 29, 42, 180, 0, 7, 27, 46, 16, 48, 161, 0, 18, 42, 180, 0, 7, 27]
abbrev dktX9_isDigit_0 : List UInt8 := dkwX9_isDigit_0 ++ dktX9_isDigit_1
theorem dksX9_isDigit_0 : cX9_isDigit.data.toList.drop 0 = dktX9_isDigit_0 := by decide +kernel
theorem dksX9_isDigit_1 : cX9_isDigit.data.toList.drop 24 = dktX9_isDigit_1 := dk_seg dksX9_isDigit_0 24 rfl rfl
theorem dX9_isDigit_0 : decode cX9_isDigit 0 = .ok (.iload_n 1, 1) := dk_27 (dk_at dksX9_isDigit_0 0 rfl rfl)
theorem dX9_isDigit_1 : decode cX9_isDigit 1 = .ok (.aload_n 0, 1) := dk_42 (dk_at dksX9_isDigit_0 1 rfl rfl)
theorem dX9_isDigit_2 : decode cX9_isDigit 2 = .ok (.getfield 61, 3) := dk_180 0 61 (dk_at dksX9_isDigit_0 2 rfl rfl)
theorem dX9_isDigit_5 : decode cX9_isDigit 5 = .ok (.if_icmp .ge 29, 3) := dk_162 0 29 (dk_at dksX9_isDigit_0 5 rfl rfl)
theorem dX9_isDigit_8 : decode cX9_isDigit 8 = .ok (.aload_n 0, 1) := dk_42 (dk_at dksX9_isDigit_0 8 rfl rfl)
theorem dX9_isDigit_9 : decode cX9_isDigit 9 = .ok (.getfield 7, 3) := dk_180 0 7 (dk_at dksX9_isDigit_0 9 rfl rfl)
theorem dX9_isDigit_12 : decode cX9_isDigit 12 = .ok (.iload_n 1, 1) := dk_27 (dk_at dksX9_isDigit_0 12 rfl rfl)
theorem dX9_isDigit_13 : decode cX9_isDigit 13 = .ok (.iaload, 1) := dk_46 (dk_at dksX9_isDigit_0 13 rfl rfl)
theorem dX9_isDigit_14 : decode cX9_isDigit 14 = .ok (.bipush 48, 2) := dk_16 48 (dk_at dksX9_isDigit_0 14 rfl rfl)
theorem dX9_isDigit_16 : decode cX9_isDigit 16 = .ok (.if_icmp .lt 18, 3) := dk_161 0 18 (dk_at dksX9_isDigit_0 16 rfl rfl)
theorem dX9_isDigit_19 : decode cX9_isDigit 19 = .ok (.aload_n 0, 1) := dk_42 (dk_at dksX9_isDigit_0 19 rfl rfl)
theorem dX9_isDigit_20 : decode cX9_isDigit 20 = .ok (.getfield 7, 3) := dk_180 0 7 (dk_at dksX9_isDigit_0 20 rfl rfl)
theorem dX9_isDigit_23 : decode cX9_isDigit 23 = .ok (.iload_n 1, 1) := dk_27 (dk_at dksX9_isDigit_0 23 rfl rfl)
theorem dX9_isDigit_24 : decode cX9_isDigit 24 = .ok (.iaload, 1) := dk_46 (dk_at dksX9_isDigit_1 0 rfl rfl)
theorem dX9_isDigit_25 : decode cX9_isDigit 25 = .ok (.bipush 57, 2) := dk_16 57 (dk_at dksX9_isDigit_1 1 rfl rfl)
theorem dX9_isDigit_27 : decode cX9_isDigit 27 = .ok (.if_icmp .gt 7, 3) := dk_163 0 7 (dk_at dksX9_isDigit_1 3 rfl rfl)
theorem dX9_isDigit_30 : decode cX9_isDigit 30 = .ok (.iconst 1, 1) := dk_4 (dk_at dksX9_isDigit_1 6 rfl rfl)
theorem dX9_isDigit_31 : decode cX9_isDigit 31 = .ok (.goto 4, 3) := dk_167 0 4 (dk_at dksX9_isDigit_1 7 rfl rfl)
theorem dX9_isDigit_34 : decode cX9_isDigit 34 = .ok (.iconst 0, 1) := dk_3 (dk_at dksX9_isDigit_1 10 rfl rfl)
theorem dX9_isDigit_35 : decode cX9_isDigit 35 = .ok (.ireturn, 1) := dk_172 (dk_at dksX9_isDigit_1 11 rfl rfl)
abbrev cX9_lineRead : ByteArray := prog_17_method_26_code
def yX9_lineRead : MethodName := ⟨RX9, "lineRead", "()Z"⟩
def dkwX9_lineRead_5 : List UInt8 := [7, 159, 0, 9, 42, 4, 182, 0, 121, 172, 42, 182, 0, 131, 4, 172]
abbrev dktX9_lineRead_5 : List UInt8 := dkwX9_lineRead_5 ++ []
def dkwX9_lineRead_4 : List UInt8 := [42, 182, 0, 168, 60, 167, 0, 9, 42, 4, 182, 0, 121, 172, 27, 154, 0, 5, 3, 172, 42, 180, 0, 67]
abbrev dktX9_lineRead_4 : List UInt8 := dkwX9_lineRead_4 ++ dktX9_lineRead_5
def dkwX9_lineRead_3 : List UInt8 := [42, 182, 0, 159, 60, 167, 0, 33, 42, 182, 0, 162, 60, 167, 0, 25, 42, 182, 0, 165, 60, 167, 0, 17]
abbrev dktX9_lineRead_3 : List UInt8 := dkwX9_lineRead_3 ++ dktX9_lineRead_4
def dkwX9_lineRead_2 : List UInt8 := [42, 182, 0, 150, 60, 167, 0, 57, 42, 182, 0, 153, 60, 167, 0, 49, 42, 182, 0, 156, 60, 167, 0, 41]
abbrev dktX9_lineRead_2 : List UInt8 := dkwX9_lineRead_2 ++ dktX9_lineRead_3
def dkwX9_lineRead_1 : List UInt8 := [170, 0, 0, 0, 0, 110, 0, 0, 0, 0, 0, 0, 0, 9, 0, 0, 0, 54, 0, 0, 0, 62, 0, 0, 0, 70, 0, 0, 0, 102, 0, 0, 0, 102, 0, 0, 0, 102, 0, 0, 0, 102, 0, 0, 0, 78, 0, 0, 0, 86, 0, 0, 0, 94]
abbrev dktX9_lineRead_1 : List UInt8 := dkwX9_lineRead_1 ++ dktX9_lineRead_2
def dkwX9_lineRead_0 : List UInt8 := [42, 180, 0, 67, 4, 159, 0, 9, 42, 4, 182, 0, 121, 172, 42, 180, 0, 78]
abbrev dktX9_lineRead_0 : List UInt8 := dkwX9_lineRead_0 ++ dktX9_lineRead_1
theorem dksX9_lineRead_0 : cX9_lineRead.data.toList.drop 0 = dktX9_lineRead_0 := by decide +kernel
theorem dksX9_lineRead_1 : cX9_lineRead.data.toList.drop 18 = dktX9_lineRead_1 := dk_seg dksX9_lineRead_0 18 rfl rfl
theorem dksX9_lineRead_2 : cX9_lineRead.data.toList.drop 72 = dktX9_lineRead_2 := dk_seg dksX9_lineRead_1 54 rfl rfl
theorem dksX9_lineRead_3 : cX9_lineRead.data.toList.drop 96 = dktX9_lineRead_3 := dk_seg dksX9_lineRead_2 24 rfl rfl
theorem dksX9_lineRead_4 : cX9_lineRead.data.toList.drop 120 = dktX9_lineRead_4 := dk_seg dksX9_lineRead_3 24 rfl rfl
theorem dksX9_lineRead_5 : cX9_lineRead.data.toList.drop 144 = dktX9_lineRead_5 := dk_seg dksX9_lineRead_4 24 rfl rfl
theorem dX9_lineRead_0 : decode cX9_lineRead 0 = .ok (.aload_n 0, 1) := dk_42 (dk_at dksX9_lineRead_0 0 rfl rfl)
theorem dX9_lineRead_1 : decode cX9_lineRead 1 = .ok (.getfield 67, 3) := dk_180 0 67 (dk_at dksX9_lineRead_0 1 rfl rfl)
theorem dX9_lineRead_4 : decode cX9_lineRead 4 = .ok (.iconst 1, 1) := dk_4 (dk_at dksX9_lineRead_0 4 rfl rfl)
theorem dX9_lineRead_5 : decode cX9_lineRead 5 = .ok (.if_icmp .eq 9, 3) := dk_159 0 9 (dk_at dksX9_lineRead_0 5 rfl rfl)
theorem dX9_lineRead_8 : decode cX9_lineRead 8 = .ok (.aload_n 0, 1) := dk_42 (dk_at dksX9_lineRead_0 8 rfl rfl)
theorem dX9_lineRead_9 : decode cX9_lineRead 9 = .ok (.iconst 1, 1) := dk_4 (dk_at dksX9_lineRead_0 9 rfl rfl)
theorem dX9_lineRead_10 : decode cX9_lineRead 10 = .ok (.invokevirtual 121, 3) := dk_182 0 121 (dk_at dksX9_lineRead_0 10 rfl rfl)
theorem dX9_lineRead_13 : decode cX9_lineRead 13 = .ok (.ireturn, 1) := dk_172 (dk_at dksX9_lineRead_0 13 rfl rfl)
theorem dX9_lineRead_14 : decode cX9_lineRead 14 = .ok (.aload_n 0, 1) := dk_42 (dk_at dksX9_lineRead_0 14 rfl rfl)
theorem dX9_lineRead_15 : decode cX9_lineRead 15 = .ok (.getfield 78, 3) := dk_180 0 78 (dk_at dksX9_lineRead_0 15 rfl rfl)
theorem dX9_lineRead_18 : decode cX9_lineRead 18 = .ok (.tableswitch 110 0 9 #[54, 62, 70, 102, 102, 102, 102, 78, 86, 94], 54) := by decide +kernel
theorem dX9_lineRead_72 : decode cX9_lineRead 72 = .ok (.aload_n 0, 1) := dk_42 (dk_at dksX9_lineRead_2 0 rfl rfl)
theorem dX9_lineRead_73 : decode cX9_lineRead 73 = .ok (.invokevirtual 150, 3) := dk_182 0 150 (dk_at dksX9_lineRead_2 1 rfl rfl)
theorem dX9_lineRead_76 : decode cX9_lineRead 76 = .ok (.istore_n 1, 1) := dk_60 (dk_at dksX9_lineRead_2 4 rfl rfl)
theorem dX9_lineRead_77 : decode cX9_lineRead 77 = .ok (.goto 57, 3) := dk_167 0 57 (dk_at dksX9_lineRead_2 5 rfl rfl)
theorem dX9_lineRead_80 : decode cX9_lineRead 80 = .ok (.aload_n 0, 1) := dk_42 (dk_at dksX9_lineRead_2 8 rfl rfl)
theorem dX9_lineRead_81 : decode cX9_lineRead 81 = .ok (.invokevirtual 153, 3) := dk_182 0 153 (dk_at dksX9_lineRead_2 9 rfl rfl)
theorem dX9_lineRead_84 : decode cX9_lineRead 84 = .ok (.istore_n 1, 1) := dk_60 (dk_at dksX9_lineRead_2 12 rfl rfl)
theorem dX9_lineRead_85 : decode cX9_lineRead 85 = .ok (.goto 49, 3) := dk_167 0 49 (dk_at dksX9_lineRead_2 13 rfl rfl)
theorem dX9_lineRead_88 : decode cX9_lineRead 88 = .ok (.aload_n 0, 1) := dk_42 (dk_at dksX9_lineRead_2 16 rfl rfl)
theorem dX9_lineRead_89 : decode cX9_lineRead 89 = .ok (.invokevirtual 156, 3) := dk_182 0 156 (dk_at dksX9_lineRead_2 17 rfl rfl)
theorem dX9_lineRead_92 : decode cX9_lineRead 92 = .ok (.istore_n 1, 1) := dk_60 (dk_at dksX9_lineRead_2 20 rfl rfl)
theorem dX9_lineRead_93 : decode cX9_lineRead 93 = .ok (.goto 41, 3) := dk_167 0 41 (dk_at dksX9_lineRead_2 21 rfl rfl)
theorem dX9_lineRead_96 : decode cX9_lineRead 96 = .ok (.aload_n 0, 1) := dk_42 (dk_at dksX9_lineRead_3 0 rfl rfl)
theorem dX9_lineRead_97 : decode cX9_lineRead 97 = .ok (.invokevirtual 159, 3) := dk_182 0 159 (dk_at dksX9_lineRead_3 1 rfl rfl)
theorem dX9_lineRead_100 : decode cX9_lineRead 100 = .ok (.istore_n 1, 1) := dk_60 (dk_at dksX9_lineRead_3 4 rfl rfl)
theorem dX9_lineRead_101 : decode cX9_lineRead 101 = .ok (.goto 33, 3) := dk_167 0 33 (dk_at dksX9_lineRead_3 5 rfl rfl)
theorem dX9_lineRead_104 : decode cX9_lineRead 104 = .ok (.aload_n 0, 1) := dk_42 (dk_at dksX9_lineRead_3 8 rfl rfl)
theorem dX9_lineRead_105 : decode cX9_lineRead 105 = .ok (.invokevirtual 162, 3) := dk_182 0 162 (dk_at dksX9_lineRead_3 9 rfl rfl)
theorem dX9_lineRead_108 : decode cX9_lineRead 108 = .ok (.istore_n 1, 1) := dk_60 (dk_at dksX9_lineRead_3 12 rfl rfl)
theorem dX9_lineRead_109 : decode cX9_lineRead 109 = .ok (.goto 25, 3) := dk_167 0 25 (dk_at dksX9_lineRead_3 13 rfl rfl)
theorem dX9_lineRead_112 : decode cX9_lineRead 112 = .ok (.aload_n 0, 1) := dk_42 (dk_at dksX9_lineRead_3 16 rfl rfl)
theorem dX9_lineRead_113 : decode cX9_lineRead 113 = .ok (.invokevirtual 165, 3) := dk_182 0 165 (dk_at dksX9_lineRead_3 17 rfl rfl)
theorem dX9_lineRead_116 : decode cX9_lineRead 116 = .ok (.istore_n 1, 1) := dk_60 (dk_at dksX9_lineRead_3 20 rfl rfl)
theorem dX9_lineRead_117 : decode cX9_lineRead 117 = .ok (.goto 17, 3) := dk_167 0 17 (dk_at dksX9_lineRead_3 21 rfl rfl)
theorem dX9_lineRead_120 : decode cX9_lineRead 120 = .ok (.aload_n 0, 1) := dk_42 (dk_at dksX9_lineRead_4 0 rfl rfl)
theorem dX9_lineRead_121 : decode cX9_lineRead 121 = .ok (.invokevirtual 168, 3) := dk_182 0 168 (dk_at dksX9_lineRead_4 1 rfl rfl)
theorem dX9_lineRead_124 : decode cX9_lineRead 124 = .ok (.istore_n 1, 1) := dk_60 (dk_at dksX9_lineRead_4 4 rfl rfl)
theorem dX9_lineRead_125 : decode cX9_lineRead 125 = .ok (.goto 9, 3) := dk_167 0 9 (dk_at dksX9_lineRead_4 5 rfl rfl)
theorem dX9_lineRead_128 : decode cX9_lineRead 128 = .ok (.aload_n 0, 1) := dk_42 (dk_at dksX9_lineRead_4 8 rfl rfl)
theorem dX9_lineRead_129 : decode cX9_lineRead 129 = .ok (.iconst 1, 1) := dk_4 (dk_at dksX9_lineRead_4 9 rfl rfl)
theorem dX9_lineRead_130 : decode cX9_lineRead 130 = .ok (.invokevirtual 121, 3) := dk_182 0 121 (dk_at dksX9_lineRead_4 10 rfl rfl)
theorem dX9_lineRead_133 : decode cX9_lineRead 133 = .ok (.ireturn, 1) := dk_172 (dk_at dksX9_lineRead_4 13 rfl rfl)
theorem dX9_lineRead_134 : decode cX9_lineRead 134 = .ok (.iload_n 1, 1) := dk_27 (dk_at dksX9_lineRead_4 14 rfl rfl)
theorem dX9_lineRead_135 : decode cX9_lineRead 135 = .ok (.ifCond .ne 5, 3) := dk_154 0 5 (dk_at dksX9_lineRead_4 15 rfl rfl)
theorem dX9_lineRead_138 : decode cX9_lineRead 138 = .ok (.iconst 0, 1) := dk_3 (dk_at dksX9_lineRead_4 18 rfl rfl)
theorem dX9_lineRead_139 : decode cX9_lineRead 139 = .ok (.ireturn, 1) := dk_172 (dk_at dksX9_lineRead_4 19 rfl rfl)
theorem dX9_lineRead_140 : decode cX9_lineRead 140 = .ok (.aload_n 0, 1) := dk_42 (dk_at dksX9_lineRead_4 20 rfl rfl)
theorem dX9_lineRead_141 : decode cX9_lineRead 141 = .ok (.getfield 67, 3) := dk_180 0 67 (dk_at dksX9_lineRead_4 21 rfl rfl)
theorem dX9_lineRead_144 : decode cX9_lineRead 144 = .ok (.iconst 4, 1) := dk_7 (dk_at dksX9_lineRead_5 0 rfl rfl)
theorem dX9_lineRead_145 : decode cX9_lineRead 145 = .ok (.if_icmp .eq 9, 3) := dk_159 0 9 (dk_at dksX9_lineRead_5 1 rfl rfl)
theorem dX9_lineRead_148 : decode cX9_lineRead 148 = .ok (.aload_n 0, 1) := dk_42 (dk_at dksX9_lineRead_5 4 rfl rfl)
theorem dX9_lineRead_149 : decode cX9_lineRead 149 = .ok (.iconst 1, 1) := dk_4 (dk_at dksX9_lineRead_5 5 rfl rfl)
theorem dX9_lineRead_150 : decode cX9_lineRead 150 = .ok (.invokevirtual 121, 3) := dk_182 0 121 (dk_at dksX9_lineRead_5 6 rfl rfl)
theorem dX9_lineRead_153 : decode cX9_lineRead 153 = .ok (.ireturn, 1) := dk_172 (dk_at dksX9_lineRead_5 9 rfl rfl)
theorem dX9_lineRead_154 : decode cX9_lineRead 154 = .ok (.aload_n 0, 1) := dk_42 (dk_at dksX9_lineRead_5 10 rfl rfl)
theorem dX9_lineRead_155 : decode cX9_lineRead 155 = .ok (.invokevirtual 131, 3) := dk_182 0 131 (dk_at dksX9_lineRead_5 11 rfl rfl)
theorem dX9_lineRead_158 : decode cX9_lineRead 158 = .ok (.iconst 1, 1) := dk_4 (dk_at dksX9_lineRead_5 14 rfl rfl)
theorem dX9_lineRead_159 : decode cX9_lineRead 159 = .ok (.ireturn, 1) := dk_172 (dk_at dksX9_lineRead_5 15 rfl rfl)
abbrev cX9_wrong : ByteArray := prog_17_method_5_code
def yX9_wrong : MethodName := ⟨RX9, "wrong", "(I)Z"⟩
def dkwX9_wrong_0 : List UInt8 := [42, 27, 181, 0, 55, 42, 42, 180, 0, 58, 181, 0, 16, 3, 172]
abbrev dktX9_wrong_0 : List UInt8 := dkwX9_wrong_0 ++ []
theorem dksX9_wrong_0 : cX9_wrong.data.toList.drop 0 = dktX9_wrong_0 := by decide +kernel
theorem dX9_wrong_0 : decode cX9_wrong 0 = .ok (.aload_n 0, 1) := dk_42 (dk_at dksX9_wrong_0 0 rfl rfl)
theorem dX9_wrong_1 : decode cX9_wrong 1 = .ok (.iload_n 1, 1) := dk_27 (dk_at dksX9_wrong_0 1 rfl rfl)
theorem dX9_wrong_2 : decode cX9_wrong 2 = .ok (.putfield 55, 3) := dk_181 0 55 (dk_at dksX9_wrong_0 2 rfl rfl)
theorem dX9_wrong_5 : decode cX9_wrong 5 = .ok (.aload_n 0, 1) := dk_42 (dk_at dksX9_wrong_0 5 rfl rfl)
theorem dX9_wrong_6 : decode cX9_wrong 6 = .ok (.aload_n 0, 1) := dk_42 (dk_at dksX9_wrong_0 6 rfl rfl)
theorem dX9_wrong_7 : decode cX9_wrong 7 = .ok (.getfield 58, 3) := dk_180 0 58 (dk_at dksX9_wrong_0 7 rfl rfl)
theorem dX9_wrong_10 : decode cX9_wrong 10 = .ok (.putfield 16, 3) := dk_181 0 16 (dk_at dksX9_wrong_0 10 rfl rfl)
theorem dX9_wrong_13 : decode cX9_wrong 13 = .ok (.iconst 0, 1) := dk_3 (dk_at dksX9_wrong_0 13 rfl rfl)
theorem dX9_wrong_14 : decode cX9_wrong 14 = .ok (.ireturn, 1) := dk_172 (dk_at dksX9_wrong_0 14 rfl rfl)
abbrev cX9_traderLine : ByteArray := prog_17_method_18_code
def yX9_traderLine : MethodName := ⟨RX9, "traderLine", "()Z"⟩
def dkwX9_traderLine_6 : List UInt8 := [180, 0, 20, 27, 5, 96, 42, 180, 0, 128, 79, 42, 89, 180, 0, 88, 4, 96, 181, 0, 88, 4, 172]
abbrev dktX9_traderLine_6 : List UInt8 := dkwX9_traderLine_6 ++ []
def dkwX9_traderLine_5 : List UInt8 := [180, 0, 20, 27, 4, 96, 42, 180, 0, 128, 79, 42, 3, 4, 182, 0, 138, 154, 0, 5, 3, 172, 42]
abbrev dktX9_traderLine_5 : List UInt8 := dkwX9_traderLine_5 ++ dktX9_traderLine_6
def dkwX9_traderLine_4 : List UInt8 := [27, 42, 180, 0, 78, 79, 42, 182, 0, 131, 42, 3, 5, 182, 0, 138, 154, 0, 5, 3, 172, 42]
abbrev dktX9_traderLine_4 : List UInt8 := dkwX9_traderLine_4 ++ dktX9_traderLine_5
def dkwX9_traderLine_3 : List UInt8 := [16, 8, 162, 0, 18, 42, 180, 0, 20, 27, 28, 96, 3, 79, 132, 2, 1, 167, 255, 238, 42, 180, 0, 20]
abbrev dktX9_traderLine_3 : List UInt8 := dkwX9_traderLine_3 ++ dktX9_traderLine_4
def dkwX9_traderLine_2 : List UInt8 := [155, 0, 9, 42, 6, 182, 0, 121, 172, 16, 32, 16, 8, 42, 180, 0, 88, 104, 96, 60, 3, 61, 28]
abbrev dktX9_traderLine_2 : List UInt8 := dkwX9_traderLine_2 ++ dktX9_traderLine_3
def dkwX9_traderLine_1 : List UInt8 := [159, 0, 9, 42, 4, 182, 0, 121, 172, 42, 42, 180, 0, 78, 16, 32, 42, 180, 0, 88, 182, 0, 134]
abbrev dktX9_traderLine_1 : List UInt8 := dkwX9_traderLine_1 ++ dktX9_traderLine_2
def dkwX9_traderLine_0 : List UInt8 := [42, 180, 0, 88, 7, 160, 0, 9, 42, 5, 182, 0, 121, 172, 42, 182, 0, 131, 42, 180, 0, 67, 5]
abbrev dktX9_traderLine_0 : List UInt8 := dkwX9_traderLine_0 ++ dktX9_traderLine_1
theorem dksX9_traderLine_0 : cX9_traderLine.data.toList.drop 0 = dktX9_traderLine_0 := by decide +kernel
theorem dksX9_traderLine_1 : cX9_traderLine.data.toList.drop 23 = dktX9_traderLine_1 := dk_seg dksX9_traderLine_0 23 rfl rfl
theorem dksX9_traderLine_2 : cX9_traderLine.data.toList.drop 46 = dktX9_traderLine_2 := dk_seg dksX9_traderLine_1 23 rfl rfl
theorem dksX9_traderLine_3 : cX9_traderLine.data.toList.drop 69 = dktX9_traderLine_3 := dk_seg dksX9_traderLine_2 23 rfl rfl
theorem dksX9_traderLine_4 : cX9_traderLine.data.toList.drop 93 = dktX9_traderLine_4 := dk_seg dksX9_traderLine_3 24 rfl rfl
theorem dksX9_traderLine_5 : cX9_traderLine.data.toList.drop 115 = dktX9_traderLine_5 := dk_seg dksX9_traderLine_4 22 rfl rfl
theorem dksX9_traderLine_6 : cX9_traderLine.data.toList.drop 138 = dktX9_traderLine_6 := dk_seg dksX9_traderLine_5 23 rfl rfl
theorem dX9_traderLine_0 : decode cX9_traderLine 0 = .ok (.aload_n 0, 1) := dk_42 (dk_at dksX9_traderLine_0 0 rfl rfl)
theorem dX9_traderLine_1 : decode cX9_traderLine 1 = .ok (.getfield 88, 3) := dk_180 0 88 (dk_at dksX9_traderLine_0 1 rfl rfl)
theorem dX9_traderLine_4 : decode cX9_traderLine 4 = .ok (.iconst 4, 1) := dk_7 (dk_at dksX9_traderLine_0 4 rfl rfl)
theorem dX9_traderLine_5 : decode cX9_traderLine 5 = .ok (.if_icmp .ne 9, 3) := dk_160 0 9 (dk_at dksX9_traderLine_0 5 rfl rfl)
theorem dX9_traderLine_8 : decode cX9_traderLine 8 = .ok (.aload_n 0, 1) := dk_42 (dk_at dksX9_traderLine_0 8 rfl rfl)
theorem dX9_traderLine_9 : decode cX9_traderLine 9 = .ok (.iconst 2, 1) := dk_5 (dk_at dksX9_traderLine_0 9 rfl rfl)
theorem dX9_traderLine_10 : decode cX9_traderLine 10 = .ok (.invokevirtual 121, 3) := dk_182 0 121 (dk_at dksX9_traderLine_0 10 rfl rfl)
theorem dX9_traderLine_13 : decode cX9_traderLine 13 = .ok (.ireturn, 1) := dk_172 (dk_at dksX9_traderLine_0 13 rfl rfl)
theorem dX9_traderLine_14 : decode cX9_traderLine 14 = .ok (.aload_n 0, 1) := dk_42 (dk_at dksX9_traderLine_0 14 rfl rfl)
theorem dX9_traderLine_15 : decode cX9_traderLine 15 = .ok (.invokevirtual 131, 3) := dk_182 0 131 (dk_at dksX9_traderLine_0 15 rfl rfl)
theorem dX9_traderLine_18 : decode cX9_traderLine 18 = .ok (.aload_n 0, 1) := dk_42 (dk_at dksX9_traderLine_0 18 rfl rfl)
theorem dX9_traderLine_19 : decode cX9_traderLine 19 = .ok (.getfield 67, 3) := dk_180 0 67 (dk_at dksX9_traderLine_0 19 rfl rfl)
theorem dX9_traderLine_22 : decode cX9_traderLine 22 = .ok (.iconst 2, 1) := dk_5 (dk_at dksX9_traderLine_0 22 rfl rfl)
theorem dX9_traderLine_23 : decode cX9_traderLine 23 = .ok (.if_icmp .eq 9, 3) := dk_159 0 9 (dk_at dksX9_traderLine_1 0 rfl rfl)
theorem dX9_traderLine_26 : decode cX9_traderLine 26 = .ok (.aload_n 0, 1) := dk_42 (dk_at dksX9_traderLine_1 3 rfl rfl)
theorem dX9_traderLine_27 : decode cX9_traderLine 27 = .ok (.iconst 1, 1) := dk_4 (dk_at dksX9_traderLine_1 4 rfl rfl)
theorem dX9_traderLine_28 : decode cX9_traderLine 28 = .ok (.invokevirtual 121, 3) := dk_182 0 121 (dk_at dksX9_traderLine_1 5 rfl rfl)
theorem dX9_traderLine_31 : decode cX9_traderLine 31 = .ok (.ireturn, 1) := dk_172 (dk_at dksX9_traderLine_1 8 rfl rfl)
theorem dX9_traderLine_32 : decode cX9_traderLine 32 = .ok (.aload_n 0, 1) := dk_42 (dk_at dksX9_traderLine_1 9 rfl rfl)
theorem dX9_traderLine_33 : decode cX9_traderLine 33 = .ok (.aload_n 0, 1) := dk_42 (dk_at dksX9_traderLine_1 10 rfl rfl)
theorem dX9_traderLine_34 : decode cX9_traderLine 34 = .ok (.getfield 78, 3) := dk_180 0 78 (dk_at dksX9_traderLine_1 11 rfl rfl)
theorem dX9_traderLine_37 : decode cX9_traderLine 37 = .ok (.bipush 32, 2) := dk_16 32 (dk_at dksX9_traderLine_1 14 rfl rfl)
theorem dX9_traderLine_39 : decode cX9_traderLine 39 = .ok (.aload_n 0, 1) := dk_42 (dk_at dksX9_traderLine_1 16 rfl rfl)
theorem dX9_traderLine_40 : decode cX9_traderLine 40 = .ok (.getfield 88, 3) := dk_180 0 88 (dk_at dksX9_traderLine_1 17 rfl rfl)
theorem dX9_traderLine_43 : decode cX9_traderLine 43 = .ok (.invokevirtual 134, 3) := dk_182 0 134 (dk_at dksX9_traderLine_1 20 rfl rfl)
theorem dX9_traderLine_46 : decode cX9_traderLine 46 = .ok (.ifCond .lt 9, 3) := dk_155 0 9 (dk_at dksX9_traderLine_2 0 rfl rfl)
theorem dX9_traderLine_49 : decode cX9_traderLine 49 = .ok (.aload_n 0, 1) := dk_42 (dk_at dksX9_traderLine_2 3 rfl rfl)
theorem dX9_traderLine_50 : decode cX9_traderLine 50 = .ok (.iconst 3, 1) := dk_6 (dk_at dksX9_traderLine_2 4 rfl rfl)
theorem dX9_traderLine_51 : decode cX9_traderLine 51 = .ok (.invokevirtual 121, 3) := dk_182 0 121 (dk_at dksX9_traderLine_2 5 rfl rfl)
theorem dX9_traderLine_54 : decode cX9_traderLine 54 = .ok (.ireturn, 1) := dk_172 (dk_at dksX9_traderLine_2 8 rfl rfl)
theorem dX9_traderLine_55 : decode cX9_traderLine 55 = .ok (.bipush 32, 2) := dk_16 32 (dk_at dksX9_traderLine_2 9 rfl rfl)
theorem dX9_traderLine_57 : decode cX9_traderLine 57 = .ok (.bipush 8, 2) := dk_16 8 (dk_at dksX9_traderLine_2 11 rfl rfl)
theorem dX9_traderLine_59 : decode cX9_traderLine 59 = .ok (.aload_n 0, 1) := dk_42 (dk_at dksX9_traderLine_2 13 rfl rfl)
theorem dX9_traderLine_60 : decode cX9_traderLine 60 = .ok (.getfield 88, 3) := dk_180 0 88 (dk_at dksX9_traderLine_2 14 rfl rfl)
theorem dX9_traderLine_63 : decode cX9_traderLine 63 = .ok (.imul, 1) := dk_104 (dk_at dksX9_traderLine_2 17 rfl rfl)
theorem dX9_traderLine_64 : decode cX9_traderLine 64 = .ok (.iadd, 1) := dk_96 (dk_at dksX9_traderLine_2 18 rfl rfl)
theorem dX9_traderLine_65 : decode cX9_traderLine 65 = .ok (.istore_n 1, 1) := dk_60 (dk_at dksX9_traderLine_2 19 rfl rfl)
theorem dX9_traderLine_66 : decode cX9_traderLine 66 = .ok (.iconst 0, 1) := dk_3 (dk_at dksX9_traderLine_2 20 rfl rfl)
theorem dX9_traderLine_67 : decode cX9_traderLine 67 = .ok (.istore_n 2, 1) := dk_61 (dk_at dksX9_traderLine_2 21 rfl rfl)
theorem dX9_traderLine_68 : decode cX9_traderLine 68 = .ok (.iload_n 2, 1) := dk_28 (dk_at dksX9_traderLine_2 22 rfl rfl)
theorem dX9_traderLine_69 : decode cX9_traderLine 69 = .ok (.bipush 8, 2) := dk_16 8 (dk_at dksX9_traderLine_3 0 rfl rfl)
theorem dX9_traderLine_71 : decode cX9_traderLine 71 = .ok (.if_icmp .ge 18, 3) := dk_162 0 18 (dk_at dksX9_traderLine_3 2 rfl rfl)
theorem dX9_traderLine_74 : decode cX9_traderLine 74 = .ok (.aload_n 0, 1) := dk_42 (dk_at dksX9_traderLine_3 5 rfl rfl)
theorem dX9_traderLine_75 : decode cX9_traderLine 75 = .ok (.getfield 20, 3) := dk_180 0 20 (dk_at dksX9_traderLine_3 6 rfl rfl)
theorem dX9_traderLine_78 : decode cX9_traderLine 78 = .ok (.iload_n 1, 1) := dk_27 (dk_at dksX9_traderLine_3 9 rfl rfl)
theorem dX9_traderLine_79 : decode cX9_traderLine 79 = .ok (.iload_n 2, 1) := dk_28 (dk_at dksX9_traderLine_3 10 rfl rfl)
theorem dX9_traderLine_80 : decode cX9_traderLine 80 = .ok (.iadd, 1) := dk_96 (dk_at dksX9_traderLine_3 11 rfl rfl)
theorem dX9_traderLine_81 : decode cX9_traderLine 81 = .ok (.iconst 0, 1) := dk_3 (dk_at dksX9_traderLine_3 12 rfl rfl)
theorem dX9_traderLine_82 : decode cX9_traderLine 82 = .ok (.iastore, 1) := dk_79 (dk_at dksX9_traderLine_3 13 rfl rfl)
theorem dX9_traderLine_83 : decode cX9_traderLine 83 = .ok (.iinc 2 1, 3) := dk_132 2 1 (dk_at dksX9_traderLine_3 14 rfl rfl)
theorem dX9_traderLine_86 : decode cX9_traderLine 86 = .ok (.goto (-18), 3) := dk_167 255 238 (dk_at dksX9_traderLine_3 17 rfl rfl)
theorem dX9_traderLine_89 : decode cX9_traderLine 89 = .ok (.aload_n 0, 1) := dk_42 (dk_at dksX9_traderLine_3 20 rfl rfl)
theorem dX9_traderLine_90 : decode cX9_traderLine 90 = .ok (.getfield 20, 3) := dk_180 0 20 (dk_at dksX9_traderLine_3 21 rfl rfl)
theorem dX9_traderLine_93 : decode cX9_traderLine 93 = .ok (.iload_n 1, 1) := dk_27 (dk_at dksX9_traderLine_4 0 rfl rfl)
theorem dX9_traderLine_94 : decode cX9_traderLine 94 = .ok (.aload_n 0, 1) := dk_42 (dk_at dksX9_traderLine_4 1 rfl rfl)
theorem dX9_traderLine_95 : decode cX9_traderLine 95 = .ok (.getfield 78, 3) := dk_180 0 78 (dk_at dksX9_traderLine_4 2 rfl rfl)
theorem dX9_traderLine_98 : decode cX9_traderLine 98 = .ok (.iastore, 1) := dk_79 (dk_at dksX9_traderLine_4 5 rfl rfl)
theorem dX9_traderLine_99 : decode cX9_traderLine 99 = .ok (.aload_n 0, 1) := dk_42 (dk_at dksX9_traderLine_4 6 rfl rfl)
theorem dX9_traderLine_100 : decode cX9_traderLine 100 = .ok (.invokevirtual 131, 3) := dk_182 0 131 (dk_at dksX9_traderLine_4 7 rfl rfl)
theorem dX9_traderLine_103 : decode cX9_traderLine 103 = .ok (.aload_n 0, 1) := dk_42 (dk_at dksX9_traderLine_4 10 rfl rfl)
theorem dX9_traderLine_104 : decode cX9_traderLine 104 = .ok (.iconst 0, 1) := dk_3 (dk_at dksX9_traderLine_4 11 rfl rfl)
theorem dX9_traderLine_105 : decode cX9_traderLine 105 = .ok (.iconst 2, 1) := dk_5 (dk_at dksX9_traderLine_4 12 rfl rfl)
theorem dX9_traderLine_106 : decode cX9_traderLine 106 = .ok (.invokevirtual 138, 3) := dk_182 0 138 (dk_at dksX9_traderLine_4 13 rfl rfl)
theorem dX9_traderLine_109 : decode cX9_traderLine 109 = .ok (.ifCond .ne 5, 3) := dk_154 0 5 (dk_at dksX9_traderLine_4 16 rfl rfl)
theorem dX9_traderLine_112 : decode cX9_traderLine 112 = .ok (.iconst 0, 1) := dk_3 (dk_at dksX9_traderLine_4 19 rfl rfl)
theorem dX9_traderLine_113 : decode cX9_traderLine 113 = .ok (.ireturn, 1) := dk_172 (dk_at dksX9_traderLine_4 20 rfl rfl)
theorem dX9_traderLine_114 : decode cX9_traderLine 114 = .ok (.aload_n 0, 1) := dk_42 (dk_at dksX9_traderLine_4 21 rfl rfl)
theorem dX9_traderLine_115 : decode cX9_traderLine 115 = .ok (.getfield 20, 3) := dk_180 0 20 (dk_at dksX9_traderLine_5 0 rfl rfl)
theorem dX9_traderLine_118 : decode cX9_traderLine 118 = .ok (.iload_n 1, 1) := dk_27 (dk_at dksX9_traderLine_5 3 rfl rfl)
theorem dX9_traderLine_119 : decode cX9_traderLine 119 = .ok (.iconst 1, 1) := dk_4 (dk_at dksX9_traderLine_5 4 rfl rfl)
theorem dX9_traderLine_120 : decode cX9_traderLine 120 = .ok (.iadd, 1) := dk_96 (dk_at dksX9_traderLine_5 5 rfl rfl)
theorem dX9_traderLine_121 : decode cX9_traderLine 121 = .ok (.aload_n 0, 1) := dk_42 (dk_at dksX9_traderLine_5 6 rfl rfl)
theorem dX9_traderLine_122 : decode cX9_traderLine 122 = .ok (.getfield 128, 3) := dk_180 0 128 (dk_at dksX9_traderLine_5 7 rfl rfl)
theorem dX9_traderLine_125 : decode cX9_traderLine 125 = .ok (.iastore, 1) := dk_79 (dk_at dksX9_traderLine_5 10 rfl rfl)
theorem dX9_traderLine_126 : decode cX9_traderLine 126 = .ok (.aload_n 0, 1) := dk_42 (dk_at dksX9_traderLine_5 11 rfl rfl)
theorem dX9_traderLine_127 : decode cX9_traderLine 127 = .ok (.iconst 0, 1) := dk_3 (dk_at dksX9_traderLine_5 12 rfl rfl)
theorem dX9_traderLine_128 : decode cX9_traderLine 128 = .ok (.iconst 1, 1) := dk_4 (dk_at dksX9_traderLine_5 13 rfl rfl)
theorem dX9_traderLine_129 : decode cX9_traderLine 129 = .ok (.invokevirtual 138, 3) := dk_182 0 138 (dk_at dksX9_traderLine_5 14 rfl rfl)
theorem dX9_traderLine_132 : decode cX9_traderLine 132 = .ok (.ifCond .ne 5, 3) := dk_154 0 5 (dk_at dksX9_traderLine_5 17 rfl rfl)
theorem dX9_traderLine_135 : decode cX9_traderLine 135 = .ok (.iconst 0, 1) := dk_3 (dk_at dksX9_traderLine_5 20 rfl rfl)
theorem dX9_traderLine_136 : decode cX9_traderLine 136 = .ok (.ireturn, 1) := dk_172 (dk_at dksX9_traderLine_5 21 rfl rfl)
theorem dX9_traderLine_137 : decode cX9_traderLine 137 = .ok (.aload_n 0, 1) := dk_42 (dk_at dksX9_traderLine_5 22 rfl rfl)
theorem dX9_traderLine_138 : decode cX9_traderLine 138 = .ok (.getfield 20, 3) := dk_180 0 20 (dk_at dksX9_traderLine_6 0 rfl rfl)
theorem dX9_traderLine_141 : decode cX9_traderLine 141 = .ok (.iload_n 1, 1) := dk_27 (dk_at dksX9_traderLine_6 3 rfl rfl)
theorem dX9_traderLine_142 : decode cX9_traderLine 142 = .ok (.iconst 2, 1) := dk_5 (dk_at dksX9_traderLine_6 4 rfl rfl)
theorem dX9_traderLine_143 : decode cX9_traderLine 143 = .ok (.iadd, 1) := dk_96 (dk_at dksX9_traderLine_6 5 rfl rfl)
theorem dX9_traderLine_144 : decode cX9_traderLine 144 = .ok (.aload_n 0, 1) := dk_42 (dk_at dksX9_traderLine_6 6 rfl rfl)
theorem dX9_traderLine_145 : decode cX9_traderLine 145 = .ok (.getfield 128, 3) := dk_180 0 128 (dk_at dksX9_traderLine_6 7 rfl rfl)
theorem dX9_traderLine_148 : decode cX9_traderLine 148 = .ok (.iastore, 1) := dk_79 (dk_at dksX9_traderLine_6 10 rfl rfl)
theorem dX9_traderLine_149 : decode cX9_traderLine 149 = .ok (.aload_n 0, 1) := dk_42 (dk_at dksX9_traderLine_6 11 rfl rfl)
theorem dX9_traderLine_150 : decode cX9_traderLine 150 = .ok (.dup, 1) := dk_89 (dk_at dksX9_traderLine_6 12 rfl rfl)
theorem dX9_traderLine_151 : decode cX9_traderLine 151 = .ok (.getfield 88, 3) := dk_180 0 88 (dk_at dksX9_traderLine_6 13 rfl rfl)
theorem dX9_traderLine_154 : decode cX9_traderLine 154 = .ok (.iconst 1, 1) := dk_4 (dk_at dksX9_traderLine_6 16 rfl rfl)
theorem dX9_traderLine_155 : decode cX9_traderLine 155 = .ok (.iadd, 1) := dk_96 (dk_at dksX9_traderLine_6 17 rfl rfl)
theorem dX9_traderLine_156 : decode cX9_traderLine 156 = .ok (.putfield 88, 3) := dk_181 0 88 (dk_at dksX9_traderLine_6 18 rfl rfl)
theorem dX9_traderLine_159 : decode cX9_traderLine 159 = .ok (.iconst 1, 1) := dk_4 (dk_at dksX9_traderLine_6 21 rfl rfl)
theorem dX9_traderLine_160 : decode cX9_traderLine 160 = .ok (.ireturn, 1) := dk_172 (dk_at dksX9_traderLine_6 22 rfl rfl)
abbrev cX9_nameAt : ByteArray := prog_17_method_15_code
def yX9_nameAt : MethodName := ⟨RX9, "nameAt", "(III)I"⟩
def dkwX9_nameAt_1 : List UInt8 := [160, 0, 6, 21, 4, 172, 132, 4, 1, 167, 255, 228, 2, 172]
abbrev dktX9_nameAt_1 : List UInt8 := dkwX9_nameAt_1 ++ []
def dkwX9_nameAt_0 : List UInt8 := [3, 54, 4, 21, 4, 29, 162, 0, 28, 42, 180, 0, 20, 28, 16, 8, 21, 4, 104, 96, 46, 27]
abbrev dktX9_nameAt_0 : List UInt8 := dkwX9_nameAt_0 ++ dktX9_nameAt_1
theorem dksX9_nameAt_0 : cX9_nameAt.data.toList.drop 0 = dktX9_nameAt_0 := by decide +kernel
theorem dksX9_nameAt_1 : cX9_nameAt.data.toList.drop 22 = dktX9_nameAt_1 := dk_seg dksX9_nameAt_0 22 rfl rfl
theorem dX9_nameAt_0 : decode cX9_nameAt 0 = .ok (.iconst 0, 1) := dk_3 (dk_at dksX9_nameAt_0 0 rfl rfl)
theorem dX9_nameAt_1 : decode cX9_nameAt 1 = .ok (.istore 4, 2) := dk_54 4 (dk_at dksX9_nameAt_0 1 rfl rfl)
theorem dX9_nameAt_3 : decode cX9_nameAt 3 = .ok (.iload 4, 2) := dk_21 4 (dk_at dksX9_nameAt_0 3 rfl rfl)
theorem dX9_nameAt_5 : decode cX9_nameAt 5 = .ok (.iload_n 3, 1) := dk_29 (dk_at dksX9_nameAt_0 5 rfl rfl)
theorem dX9_nameAt_6 : decode cX9_nameAt 6 = .ok (.if_icmp .ge 28, 3) := dk_162 0 28 (dk_at dksX9_nameAt_0 6 rfl rfl)
theorem dX9_nameAt_9 : decode cX9_nameAt 9 = .ok (.aload_n 0, 1) := dk_42 (dk_at dksX9_nameAt_0 9 rfl rfl)
theorem dX9_nameAt_10 : decode cX9_nameAt 10 = .ok (.getfield 20, 3) := dk_180 0 20 (dk_at dksX9_nameAt_0 10 rfl rfl)
theorem dX9_nameAt_13 : decode cX9_nameAt 13 = .ok (.iload_n 2, 1) := dk_28 (dk_at dksX9_nameAt_0 13 rfl rfl)
theorem dX9_nameAt_14 : decode cX9_nameAt 14 = .ok (.bipush 8, 2) := dk_16 8 (dk_at dksX9_nameAt_0 14 rfl rfl)
theorem dX9_nameAt_16 : decode cX9_nameAt 16 = .ok (.iload 4, 2) := dk_21 4 (dk_at dksX9_nameAt_0 16 rfl rfl)
theorem dX9_nameAt_18 : decode cX9_nameAt 18 = .ok (.imul, 1) := dk_104 (dk_at dksX9_nameAt_0 18 rfl rfl)
theorem dX9_nameAt_19 : decode cX9_nameAt 19 = .ok (.iadd, 1) := dk_96 (dk_at dksX9_nameAt_0 19 rfl rfl)
theorem dX9_nameAt_20 : decode cX9_nameAt 20 = .ok (.iaload, 1) := dk_46 (dk_at dksX9_nameAt_0 20 rfl rfl)
theorem dX9_nameAt_21 : decode cX9_nameAt 21 = .ok (.iload_n 1, 1) := dk_27 (dk_at dksX9_nameAt_0 21 rfl rfl)
theorem dX9_nameAt_22 : decode cX9_nameAt 22 = .ok (.if_icmp .ne 6, 3) := dk_160 0 6 (dk_at dksX9_nameAt_1 0 rfl rfl)
theorem dX9_nameAt_25 : decode cX9_nameAt 25 = .ok (.iload 4, 2) := dk_21 4 (dk_at dksX9_nameAt_1 3 rfl rfl)
theorem dX9_nameAt_27 : decode cX9_nameAt 27 = .ok (.ireturn, 1) := dk_172 (dk_at dksX9_nameAt_1 5 rfl rfl)
theorem dX9_nameAt_28 : decode cX9_nameAt 28 = .ok (.iinc 4 1, 3) := dk_132 4 1 (dk_at dksX9_nameAt_1 6 rfl rfl)
theorem dX9_nameAt_31 : decode cX9_nameAt 31 = .ok (.goto (-28), 3) := dk_167 255 228 (dk_at dksX9_nameAt_1 9 rfl rfl)
theorem dX9_nameAt_34 : decode cX9_nameAt 34 = .ok (.iconst (-1), 1) := dk_2 (dk_at dksX9_nameAt_1 12 rfl rfl)
theorem dX9_nameAt_35 : decode cX9_nameAt 35 = .ok (.ireturn, 1) := dk_172 (dk_at dksX9_nameAt_1 13 rfl rfl)
abbrev cX9_number : ByteArray := prog_17_method_16_code
def yX9_number : MethodName := ⟨RX9, "number", "(II)Z"⟩
def dkwX9_number_1 : List UInt8 := [154, 0, 9, 42, 5, 182, 0, 121, 172, 42, 42, 180, 0, 78, 181, 0, 128, 42, 182, 0, 131, 4, 172]
abbrev dktX9_number_1 : List UInt8 := dkwX9_number_1 ++ []
def dkwX9_number_0 : List UInt8 := [42, 180, 0, 67, 6, 159, 0, 9, 42, 4, 182, 0, 121, 172, 42, 180, 0, 78, 27, 28, 184, 0, 124]
abbrev dktX9_number_0 : List UInt8 := dkwX9_number_0 ++ dktX9_number_1
theorem dksX9_number_0 : cX9_number.data.toList.drop 0 = dktX9_number_0 := by decide +kernel
theorem dksX9_number_1 : cX9_number.data.toList.drop 23 = dktX9_number_1 := dk_seg dksX9_number_0 23 rfl rfl
theorem dX9_number_0 : decode cX9_number 0 = .ok (.aload_n 0, 1) := dk_42 (dk_at dksX9_number_0 0 rfl rfl)
theorem dX9_number_1 : decode cX9_number 1 = .ok (.getfield 67, 3) := dk_180 0 67 (dk_at dksX9_number_0 1 rfl rfl)
theorem dX9_number_4 : decode cX9_number 4 = .ok (.iconst 3, 1) := dk_6 (dk_at dksX9_number_0 4 rfl rfl)
theorem dX9_number_5 : decode cX9_number 5 = .ok (.if_icmp .eq 9, 3) := dk_159 0 9 (dk_at dksX9_number_0 5 rfl rfl)
theorem dX9_number_8 : decode cX9_number 8 = .ok (.aload_n 0, 1) := dk_42 (dk_at dksX9_number_0 8 rfl rfl)
theorem dX9_number_9 : decode cX9_number 9 = .ok (.iconst 1, 1) := dk_4 (dk_at dksX9_number_0 9 rfl rfl)
theorem dX9_number_10 : decode cX9_number 10 = .ok (.invokevirtual 121, 3) := dk_182 0 121 (dk_at dksX9_number_0 10 rfl rfl)
theorem dX9_number_13 : decode cX9_number 13 = .ok (.ireturn, 1) := dk_172 (dk_at dksX9_number_0 13 rfl rfl)
theorem dX9_number_14 : decode cX9_number 14 = .ok (.aload_n 0, 1) := dk_42 (dk_at dksX9_number_0 14 rfl rfl)
theorem dX9_number_15 : decode cX9_number 15 = .ok (.getfield 78, 3) := dk_180 0 78 (dk_at dksX9_number_0 15 rfl rfl)
theorem dX9_number_18 : decode cX9_number 18 = .ok (.iload_n 1, 1) := dk_27 (dk_at dksX9_number_0 18 rfl rfl)
theorem dX9_number_19 : decode cX9_number 19 = .ok (.iload_n 2, 1) := dk_28 (dk_at dksX9_number_0 19 rfl rfl)
theorem dX9_number_20 : decode cX9_number 20 = .ok (.invokestatic 124, 3) := dk_184 0 124 (dk_at dksX9_number_0 20 rfl rfl)
theorem dX9_number_23 : decode cX9_number 23 = .ok (.ifCond .ne 9, 3) := dk_154 0 9 (dk_at dksX9_number_1 0 rfl rfl)
theorem dX9_number_26 : decode cX9_number 26 = .ok (.aload_n 0, 1) := dk_42 (dk_at dksX9_number_1 3 rfl rfl)
theorem dX9_number_27 : decode cX9_number 27 = .ok (.iconst 2, 1) := dk_5 (dk_at dksX9_number_1 4 rfl rfl)
theorem dX9_number_28 : decode cX9_number 28 = .ok (.invokevirtual 121, 3) := dk_182 0 121 (dk_at dksX9_number_1 5 rfl rfl)
theorem dX9_number_31 : decode cX9_number 31 = .ok (.ireturn, 1) := dk_172 (dk_at dksX9_number_1 8 rfl rfl)
theorem dX9_number_32 : decode cX9_number 32 = .ok (.aload_n 0, 1) := dk_42 (dk_at dksX9_number_1 9 rfl rfl)
theorem dX9_number_33 : decode cX9_number 33 = .ok (.aload_n 0, 1) := dk_42 (dk_at dksX9_number_1 10 rfl rfl)
theorem dX9_number_34 : decode cX9_number 34 = .ok (.getfield 78, 3) := dk_180 0 78 (dk_at dksX9_number_1 11 rfl rfl)
theorem dX9_number_37 : decode cX9_number 37 = .ok (.putfield 128, 3) := dk_181 0 128 (dk_at dksX9_number_1 14 rfl rfl)
theorem dX9_number_40 : decode cX9_number 40 = .ok (.aload_n 0, 1) := dk_42 (dk_at dksX9_number_1 17 rfl rfl)
theorem dX9_number_41 : decode cX9_number 41 = .ok (.invokevirtual 131, 3) := dk_182 0 131 (dk_at dksX9_number_1 18 rfl rfl)
theorem dX9_number_44 : decode cX9_number 44 = .ok (.iconst 1, 1) := dk_4 (dk_at dksX9_number_1 21 rfl rfl)
theorem dX9_number_45 : decode cX9_number 45 = .ok (.ireturn, 1) := dk_172 (dk_at dksX9_number_1 22 rfl rfl)
abbrev cX9_isIn : ByteArray := prog_17_method_4_code
def yX9_isIn : MethodName := ⟨RX9, "isIn", "(III)Z"⟩
def dkwX9_isIn_0 : List UInt8 := [26, 27, 161, 0, 12, 26, 28, 163, 0, 7, 4, 167, 0, 4, 3, 172]
abbrev dktX9_isIn_0 : List UInt8 := dkwX9_isIn_0 ++ []
theorem dksX9_isIn_0 : cX9_isIn.data.toList.drop 0 = dktX9_isIn_0 := by decide +kernel
theorem dX9_isIn_0 : decode cX9_isIn 0 = .ok (.iload_n 0, 1) := dk_26 (dk_at dksX9_isIn_0 0 rfl rfl)
theorem dX9_isIn_1 : decode cX9_isIn 1 = .ok (.iload_n 1, 1) := dk_27 (dk_at dksX9_isIn_0 1 rfl rfl)
theorem dX9_isIn_2 : decode cX9_isIn 2 = .ok (.if_icmp .lt 12, 3) := dk_161 0 12 (dk_at dksX9_isIn_0 2 rfl rfl)
theorem dX9_isIn_5 : decode cX9_isIn 5 = .ok (.iload_n 0, 1) := dk_26 (dk_at dksX9_isIn_0 5 rfl rfl)
theorem dX9_isIn_6 : decode cX9_isIn 6 = .ok (.iload_n 2, 1) := dk_28 (dk_at dksX9_isIn_0 6 rfl rfl)
theorem dX9_isIn_7 : decode cX9_isIn 7 = .ok (.if_icmp .gt 7, 3) := dk_163 0 7 (dk_at dksX9_isIn_0 7 rfl rfl)
theorem dX9_isIn_10 : decode cX9_isIn 10 = .ok (.iconst 1, 1) := dk_4 (dk_at dksX9_isIn_0 10 rfl rfl)
theorem dX9_isIn_11 : decode cX9_isIn 11 = .ok (.goto 4, 3) := dk_167 0 4 (dk_at dksX9_isIn_0 11 rfl rfl)
theorem dX9_isIn_14 : decode cX9_isIn 14 = .ok (.iconst 0, 1) := dk_3 (dk_at dksX9_isIn_0 14 rfl rfl)
theorem dX9_isIn_15 : decode cX9_isIn 15 = .ok (.ireturn, 1) := dk_172 (dk_at dksX9_isIn_0 15 rfl rfl)
abbrev cX9_headLine : ByteArray := prog_17_method_19_code
def yX9_headLine : MethodName := ⟨RX9, "headLine", "()Z"⟩
def dkwX9_headLine_5 : List UInt8 := [4, 96, 42, 180, 0, 128, 79, 4, 172]
abbrev dktX9_headLine_5 : List UInt8 := dkwX9_headLine_5 ++ []
def dkwX9_headLine_4 : List UInt8 := [182, 0, 138, 154, 0, 5, 3, 172, 42, 180, 0, 20, 27, 7, 96, 28, 79, 42, 180, 0, 20, 27, 7, 96]
abbrev dktX9_headLine_4 : List UInt8 := dkwX9_headLine_4 ++ dktX9_headLine_5
def dkwX9_headLine_3 : List UInt8 := [164, 0, 9, 42, 5, 182, 0, 121, 172, 42, 180, 0, 78, 61, 42, 182, 0, 131, 42, 28, 17, 3, 231]
abbrev dktX9_headLine_3 : List UInt8 := dkwX9_headLine_3 ++ dktX9_headLine_4
def dkwX9_headLine_2 : List UInt8 := [182, 0, 131, 42, 180, 0, 67, 6, 159, 0, 9, 42, 4, 182, 0, 121, 172, 42, 180, 0, 78, 17, 3, 231]
abbrev dktX9_headLine_2 : List UInt8 := dkwX9_headLine_2 ++ dktX9_headLine_3
def dkwX9_headLine_1 : List UInt8 := [27, 6, 96, 46, 4, 160, 0, 9, 42, 6, 182, 0, 121, 172, 42, 180, 0, 20, 27, 6, 96, 4, 79, 42]
abbrev dktX9_headLine_1 : List UInt8 := dkwX9_headLine_1 ++ dktX9_headLine_2
def dkwX9_headLine_0 : List UInt8 := [42, 182, 0, 142, 154, 0, 5, 3, 172, 16, 32, 16, 8, 42, 180, 0, 128, 104, 96, 60, 42, 180, 0, 20]
abbrev dktX9_headLine_0 : List UInt8 := dkwX9_headLine_0 ++ dktX9_headLine_1
theorem dksX9_headLine_0 : cX9_headLine.data.toList.drop 0 = dktX9_headLine_0 := by decide +kernel
theorem dksX9_headLine_1 : cX9_headLine.data.toList.drop 24 = dktX9_headLine_1 := dk_seg dksX9_headLine_0 24 rfl rfl
theorem dksX9_headLine_2 : cX9_headLine.data.toList.drop 48 = dktX9_headLine_2 := dk_seg dksX9_headLine_1 24 rfl rfl
theorem dksX9_headLine_3 : cX9_headLine.data.toList.drop 72 = dktX9_headLine_3 := dk_seg dksX9_headLine_2 24 rfl rfl
theorem dksX9_headLine_4 : cX9_headLine.data.toList.drop 95 = dktX9_headLine_4 := dk_seg dksX9_headLine_3 23 rfl rfl
theorem dksX9_headLine_5 : cX9_headLine.data.toList.drop 119 = dktX9_headLine_5 := dk_seg dksX9_headLine_4 24 rfl rfl
theorem dX9_headLine_0 : decode cX9_headLine 0 = .ok (.aload_n 0, 1) := dk_42 (dk_at dksX9_headLine_0 0 rfl rfl)
theorem dX9_headLine_1 : decode cX9_headLine 1 = .ok (.invokevirtual 142, 3) := dk_182 0 142 (dk_at dksX9_headLine_0 1 rfl rfl)
theorem dX9_headLine_4 : decode cX9_headLine 4 = .ok (.ifCond .ne 5, 3) := dk_154 0 5 (dk_at dksX9_headLine_0 4 rfl rfl)
theorem dX9_headLine_7 : decode cX9_headLine 7 = .ok (.iconst 0, 1) := dk_3 (dk_at dksX9_headLine_0 7 rfl rfl)
theorem dX9_headLine_8 : decode cX9_headLine 8 = .ok (.ireturn, 1) := dk_172 (dk_at dksX9_headLine_0 8 rfl rfl)
theorem dX9_headLine_9 : decode cX9_headLine 9 = .ok (.bipush 32, 2) := dk_16 32 (dk_at dksX9_headLine_0 9 rfl rfl)
theorem dX9_headLine_11 : decode cX9_headLine 11 = .ok (.bipush 8, 2) := dk_16 8 (dk_at dksX9_headLine_0 11 rfl rfl)
theorem dX9_headLine_13 : decode cX9_headLine 13 = .ok (.aload_n 0, 1) := dk_42 (dk_at dksX9_headLine_0 13 rfl rfl)
theorem dX9_headLine_14 : decode cX9_headLine 14 = .ok (.getfield 128, 3) := dk_180 0 128 (dk_at dksX9_headLine_0 14 rfl rfl)
theorem dX9_headLine_17 : decode cX9_headLine 17 = .ok (.imul, 1) := dk_104 (dk_at dksX9_headLine_0 17 rfl rfl)
theorem dX9_headLine_18 : decode cX9_headLine 18 = .ok (.iadd, 1) := dk_96 (dk_at dksX9_headLine_0 18 rfl rfl)
theorem dX9_headLine_19 : decode cX9_headLine 19 = .ok (.istore_n 1, 1) := dk_60 (dk_at dksX9_headLine_0 19 rfl rfl)
theorem dX9_headLine_20 : decode cX9_headLine 20 = .ok (.aload_n 0, 1) := dk_42 (dk_at dksX9_headLine_0 20 rfl rfl)
theorem dX9_headLine_21 : decode cX9_headLine 21 = .ok (.getfield 20, 3) := dk_180 0 20 (dk_at dksX9_headLine_0 21 rfl rfl)
theorem dX9_headLine_24 : decode cX9_headLine 24 = .ok (.iload_n 1, 1) := dk_27 (dk_at dksX9_headLine_1 0 rfl rfl)
theorem dX9_headLine_25 : decode cX9_headLine 25 = .ok (.iconst 3, 1) := dk_6 (dk_at dksX9_headLine_1 1 rfl rfl)
theorem dX9_headLine_26 : decode cX9_headLine 26 = .ok (.iadd, 1) := dk_96 (dk_at dksX9_headLine_1 2 rfl rfl)
theorem dX9_headLine_27 : decode cX9_headLine 27 = .ok (.iaload, 1) := dk_46 (dk_at dksX9_headLine_1 3 rfl rfl)
theorem dX9_headLine_28 : decode cX9_headLine 28 = .ok (.iconst 1, 1) := dk_4 (dk_at dksX9_headLine_1 4 rfl rfl)
theorem dX9_headLine_29 : decode cX9_headLine 29 = .ok (.if_icmp .ne 9, 3) := dk_160 0 9 (dk_at dksX9_headLine_1 5 rfl rfl)
theorem dX9_headLine_32 : decode cX9_headLine 32 = .ok (.aload_n 0, 1) := dk_42 (dk_at dksX9_headLine_1 8 rfl rfl)
theorem dX9_headLine_33 : decode cX9_headLine 33 = .ok (.iconst 3, 1) := dk_6 (dk_at dksX9_headLine_1 9 rfl rfl)
theorem dX9_headLine_34 : decode cX9_headLine 34 = .ok (.invokevirtual 121, 3) := dk_182 0 121 (dk_at dksX9_headLine_1 10 rfl rfl)
theorem dX9_headLine_37 : decode cX9_headLine 37 = .ok (.ireturn, 1) := dk_172 (dk_at dksX9_headLine_1 13 rfl rfl)
theorem dX9_headLine_38 : decode cX9_headLine 38 = .ok (.aload_n 0, 1) := dk_42 (dk_at dksX9_headLine_1 14 rfl rfl)
theorem dX9_headLine_39 : decode cX9_headLine 39 = .ok (.getfield 20, 3) := dk_180 0 20 (dk_at dksX9_headLine_1 15 rfl rfl)
theorem dX9_headLine_42 : decode cX9_headLine 42 = .ok (.iload_n 1, 1) := dk_27 (dk_at dksX9_headLine_1 18 rfl rfl)
theorem dX9_headLine_43 : decode cX9_headLine 43 = .ok (.iconst 3, 1) := dk_6 (dk_at dksX9_headLine_1 19 rfl rfl)
theorem dX9_headLine_44 : decode cX9_headLine 44 = .ok (.iadd, 1) := dk_96 (dk_at dksX9_headLine_1 20 rfl rfl)
theorem dX9_headLine_45 : decode cX9_headLine 45 = .ok (.iconst 1, 1) := dk_4 (dk_at dksX9_headLine_1 21 rfl rfl)
theorem dX9_headLine_46 : decode cX9_headLine 46 = .ok (.iastore, 1) := dk_79 (dk_at dksX9_headLine_1 22 rfl rfl)
theorem dX9_headLine_47 : decode cX9_headLine 47 = .ok (.aload_n 0, 1) := dk_42 (dk_at dksX9_headLine_1 23 rfl rfl)
theorem dX9_headLine_48 : decode cX9_headLine 48 = .ok (.invokevirtual 131, 3) := dk_182 0 131 (dk_at dksX9_headLine_2 0 rfl rfl)
theorem dX9_headLine_51 : decode cX9_headLine 51 = .ok (.aload_n 0, 1) := dk_42 (dk_at dksX9_headLine_2 3 rfl rfl)
theorem dX9_headLine_52 : decode cX9_headLine 52 = .ok (.getfield 67, 3) := dk_180 0 67 (dk_at dksX9_headLine_2 4 rfl rfl)
theorem dX9_headLine_55 : decode cX9_headLine 55 = .ok (.iconst 3, 1) := dk_6 (dk_at dksX9_headLine_2 7 rfl rfl)
theorem dX9_headLine_56 : decode cX9_headLine 56 = .ok (.if_icmp .eq 9, 3) := dk_159 0 9 (dk_at dksX9_headLine_2 8 rfl rfl)
theorem dX9_headLine_59 : decode cX9_headLine 59 = .ok (.aload_n 0, 1) := dk_42 (dk_at dksX9_headLine_2 11 rfl rfl)
theorem dX9_headLine_60 : decode cX9_headLine 60 = .ok (.iconst 1, 1) := dk_4 (dk_at dksX9_headLine_2 12 rfl rfl)
theorem dX9_headLine_61 : decode cX9_headLine 61 = .ok (.invokevirtual 121, 3) := dk_182 0 121 (dk_at dksX9_headLine_2 13 rfl rfl)
theorem dX9_headLine_64 : decode cX9_headLine 64 = .ok (.ireturn, 1) := dk_172 (dk_at dksX9_headLine_2 16 rfl rfl)
theorem dX9_headLine_65 : decode cX9_headLine 65 = .ok (.aload_n 0, 1) := dk_42 (dk_at dksX9_headLine_2 17 rfl rfl)
theorem dX9_headLine_66 : decode cX9_headLine 66 = .ok (.getfield 78, 3) := dk_180 0 78 (dk_at dksX9_headLine_2 18 rfl rfl)
theorem dX9_headLine_69 : decode cX9_headLine 69 = .ok (.sipush 999, 3) := dk_17 3 231 (dk_at dksX9_headLine_2 21 rfl rfl)
theorem dX9_headLine_72 : decode cX9_headLine 72 = .ok (.if_icmp .le 9, 3) := dk_164 0 9 (dk_at dksX9_headLine_3 0 rfl rfl)
theorem dX9_headLine_75 : decode cX9_headLine 75 = .ok (.aload_n 0, 1) := dk_42 (dk_at dksX9_headLine_3 3 rfl rfl)
theorem dX9_headLine_76 : decode cX9_headLine 76 = .ok (.iconst 2, 1) := dk_5 (dk_at dksX9_headLine_3 4 rfl rfl)
theorem dX9_headLine_77 : decode cX9_headLine 77 = .ok (.invokevirtual 121, 3) := dk_182 0 121 (dk_at dksX9_headLine_3 5 rfl rfl)
theorem dX9_headLine_80 : decode cX9_headLine 80 = .ok (.ireturn, 1) := dk_172 (dk_at dksX9_headLine_3 8 rfl rfl)
theorem dX9_headLine_81 : decode cX9_headLine 81 = .ok (.aload_n 0, 1) := dk_42 (dk_at dksX9_headLine_3 9 rfl rfl)
theorem dX9_headLine_82 : decode cX9_headLine 82 = .ok (.getfield 78, 3) := dk_180 0 78 (dk_at dksX9_headLine_3 10 rfl rfl)
theorem dX9_headLine_85 : decode cX9_headLine 85 = .ok (.istore_n 2, 1) := dk_61 (dk_at dksX9_headLine_3 13 rfl rfl)
theorem dX9_headLine_86 : decode cX9_headLine 86 = .ok (.aload_n 0, 1) := dk_42 (dk_at dksX9_headLine_3 14 rfl rfl)
theorem dX9_headLine_87 : decode cX9_headLine 87 = .ok (.invokevirtual 131, 3) := dk_182 0 131 (dk_at dksX9_headLine_3 15 rfl rfl)
theorem dX9_headLine_90 : decode cX9_headLine 90 = .ok (.aload_n 0, 1) := dk_42 (dk_at dksX9_headLine_3 18 rfl rfl)
theorem dX9_headLine_91 : decode cX9_headLine 91 = .ok (.iload_n 2, 1) := dk_28 (dk_at dksX9_headLine_3 19 rfl rfl)
theorem dX9_headLine_92 : decode cX9_headLine 92 = .ok (.sipush 999, 3) := dk_17 3 231 (dk_at dksX9_headLine_3 20 rfl rfl)
theorem dX9_headLine_95 : decode cX9_headLine 95 = .ok (.invokevirtual 138, 3) := dk_182 0 138 (dk_at dksX9_headLine_4 0 rfl rfl)
theorem dX9_headLine_98 : decode cX9_headLine 98 = .ok (.ifCond .ne 5, 3) := dk_154 0 5 (dk_at dksX9_headLine_4 3 rfl rfl)
theorem dX9_headLine_101 : decode cX9_headLine 101 = .ok (.iconst 0, 1) := dk_3 (dk_at dksX9_headLine_4 6 rfl rfl)
theorem dX9_headLine_102 : decode cX9_headLine 102 = .ok (.ireturn, 1) := dk_172 (dk_at dksX9_headLine_4 7 rfl rfl)
theorem dX9_headLine_103 : decode cX9_headLine 103 = .ok (.aload_n 0, 1) := dk_42 (dk_at dksX9_headLine_4 8 rfl rfl)
theorem dX9_headLine_104 : decode cX9_headLine 104 = .ok (.getfield 20, 3) := dk_180 0 20 (dk_at dksX9_headLine_4 9 rfl rfl)
theorem dX9_headLine_107 : decode cX9_headLine 107 = .ok (.iload_n 1, 1) := dk_27 (dk_at dksX9_headLine_4 12 rfl rfl)
theorem dX9_headLine_108 : decode cX9_headLine 108 = .ok (.iconst 4, 1) := dk_7 (dk_at dksX9_headLine_4 13 rfl rfl)
theorem dX9_headLine_109 : decode cX9_headLine 109 = .ok (.iadd, 1) := dk_96 (dk_at dksX9_headLine_4 14 rfl rfl)
theorem dX9_headLine_110 : decode cX9_headLine 110 = .ok (.iload_n 2, 1) := dk_28 (dk_at dksX9_headLine_4 15 rfl rfl)
theorem dX9_headLine_111 : decode cX9_headLine 111 = .ok (.iastore, 1) := dk_79 (dk_at dksX9_headLine_4 16 rfl rfl)
theorem dX9_headLine_112 : decode cX9_headLine 112 = .ok (.aload_n 0, 1) := dk_42 (dk_at dksX9_headLine_4 17 rfl rfl)
theorem dX9_headLine_113 : decode cX9_headLine 113 = .ok (.getfield 20, 3) := dk_180 0 20 (dk_at dksX9_headLine_4 18 rfl rfl)
theorem dX9_headLine_116 : decode cX9_headLine 116 = .ok (.iload_n 1, 1) := dk_27 (dk_at dksX9_headLine_4 21 rfl rfl)
theorem dX9_headLine_117 : decode cX9_headLine 117 = .ok (.iconst 4, 1) := dk_7 (dk_at dksX9_headLine_4 22 rfl rfl)
theorem dX9_headLine_118 : decode cX9_headLine 118 = .ok (.iadd, 1) := dk_96 (dk_at dksX9_headLine_4 23 rfl rfl)
theorem dX9_headLine_119 : decode cX9_headLine 119 = .ok (.iconst 1, 1) := dk_4 (dk_at dksX9_headLine_5 0 rfl rfl)
theorem dX9_headLine_120 : decode cX9_headLine 120 = .ok (.iadd, 1) := dk_96 (dk_at dksX9_headLine_5 1 rfl rfl)
theorem dX9_headLine_121 : decode cX9_headLine 121 = .ok (.aload_n 0, 1) := dk_42 (dk_at dksX9_headLine_5 2 rfl rfl)
theorem dX9_headLine_122 : decode cX9_headLine 122 = .ok (.getfield 128, 3) := dk_180 0 128 (dk_at dksX9_headLine_5 3 rfl rfl)
theorem dX9_headLine_125 : decode cX9_headLine 125 = .ok (.iastore, 1) := dk_79 (dk_at dksX9_headLine_5 6 rfl rfl)
theorem dX9_headLine_126 : decode cX9_headLine 126 = .ok (.iconst 1, 1) := dk_4 (dk_at dksX9_headLine_5 7 rfl rfl)
theorem dX9_headLine_127 : decode cX9_headLine 127 = .ok (.ireturn, 1) := dk_172 (dk_at dksX9_headLine_5 8 rfl rfl)
abbrev cX9_traderRead : ByteArray := prog_17_method_17_code
def yX9_traderRead : MethodName := ⟨RX9, "traderRead", "()Z"⟩
def dkwX9_traderRead_2 : List UInt8 := [153, 0, 7, 4, 167, 0, 4, 3, 172]
abbrev dktX9_traderRead_2 : List UInt8 := dkwX9_traderRead_2 ++ []
def dkwX9_traderRead_1 : List UInt8 := [16, 32, 42, 180, 0, 88, 182, 0, 134, 181, 0, 128, 42, 180, 0, 128, 156, 0, 11, 42, 7, 182, 0, 121]
abbrev dktX9_traderRead_1 : List UInt8 := dkwX9_traderRead_1 ++ dktX9_traderRead_2
def dkwX9_traderRead_0 : List UInt8 := [42, 182, 0, 131, 42, 180, 0, 67, 5, 159, 0, 9, 42, 4, 182, 0, 121, 172, 42, 42, 42, 180, 0, 78]
abbrev dktX9_traderRead_0 : List UInt8 := dkwX9_traderRead_0 ++ dktX9_traderRead_1
theorem dksX9_traderRead_0 : cX9_traderRead.data.toList.drop 0 = dktX9_traderRead_0 := by decide +kernel
theorem dksX9_traderRead_1 : cX9_traderRead.data.toList.drop 24 = dktX9_traderRead_1 := dk_seg dksX9_traderRead_0 24 rfl rfl
theorem dksX9_traderRead_2 : cX9_traderRead.data.toList.drop 48 = dktX9_traderRead_2 := dk_seg dksX9_traderRead_1 24 rfl rfl
theorem dX9_traderRead_0 : decode cX9_traderRead 0 = .ok (.aload_n 0, 1) := dk_42 (dk_at dksX9_traderRead_0 0 rfl rfl)
theorem dX9_traderRead_1 : decode cX9_traderRead 1 = .ok (.invokevirtual 131, 3) := dk_182 0 131 (dk_at dksX9_traderRead_0 1 rfl rfl)
theorem dX9_traderRead_4 : decode cX9_traderRead 4 = .ok (.aload_n 0, 1) := dk_42 (dk_at dksX9_traderRead_0 4 rfl rfl)
theorem dX9_traderRead_5 : decode cX9_traderRead 5 = .ok (.getfield 67, 3) := dk_180 0 67 (dk_at dksX9_traderRead_0 5 rfl rfl)
theorem dX9_traderRead_8 : decode cX9_traderRead 8 = .ok (.iconst 2, 1) := dk_5 (dk_at dksX9_traderRead_0 8 rfl rfl)
theorem dX9_traderRead_9 : decode cX9_traderRead 9 = .ok (.if_icmp .eq 9, 3) := dk_159 0 9 (dk_at dksX9_traderRead_0 9 rfl rfl)
theorem dX9_traderRead_12 : decode cX9_traderRead 12 = .ok (.aload_n 0, 1) := dk_42 (dk_at dksX9_traderRead_0 12 rfl rfl)
theorem dX9_traderRead_13 : decode cX9_traderRead 13 = .ok (.iconst 1, 1) := dk_4 (dk_at dksX9_traderRead_0 13 rfl rfl)
theorem dX9_traderRead_14 : decode cX9_traderRead 14 = .ok (.invokevirtual 121, 3) := dk_182 0 121 (dk_at dksX9_traderRead_0 14 rfl rfl)
theorem dX9_traderRead_17 : decode cX9_traderRead 17 = .ok (.ireturn, 1) := dk_172 (dk_at dksX9_traderRead_0 17 rfl rfl)
theorem dX9_traderRead_18 : decode cX9_traderRead 18 = .ok (.aload_n 0, 1) := dk_42 (dk_at dksX9_traderRead_0 18 rfl rfl)
theorem dX9_traderRead_19 : decode cX9_traderRead 19 = .ok (.aload_n 0, 1) := dk_42 (dk_at dksX9_traderRead_0 19 rfl rfl)
theorem dX9_traderRead_20 : decode cX9_traderRead 20 = .ok (.aload_n 0, 1) := dk_42 (dk_at dksX9_traderRead_0 20 rfl rfl)
theorem dX9_traderRead_21 : decode cX9_traderRead 21 = .ok (.getfield 78, 3) := dk_180 0 78 (dk_at dksX9_traderRead_0 21 rfl rfl)
theorem dX9_traderRead_24 : decode cX9_traderRead 24 = .ok (.bipush 32, 2) := dk_16 32 (dk_at dksX9_traderRead_1 0 rfl rfl)
theorem dX9_traderRead_26 : decode cX9_traderRead 26 = .ok (.aload_n 0, 1) := dk_42 (dk_at dksX9_traderRead_1 2 rfl rfl)
theorem dX9_traderRead_27 : decode cX9_traderRead 27 = .ok (.getfield 88, 3) := dk_180 0 88 (dk_at dksX9_traderRead_1 3 rfl rfl)
theorem dX9_traderRead_30 : decode cX9_traderRead 30 = .ok (.invokevirtual 134, 3) := dk_182 0 134 (dk_at dksX9_traderRead_1 6 rfl rfl)
theorem dX9_traderRead_33 : decode cX9_traderRead 33 = .ok (.putfield 128, 3) := dk_181 0 128 (dk_at dksX9_traderRead_1 9 rfl rfl)
theorem dX9_traderRead_36 : decode cX9_traderRead 36 = .ok (.aload_n 0, 1) := dk_42 (dk_at dksX9_traderRead_1 12 rfl rfl)
theorem dX9_traderRead_37 : decode cX9_traderRead 37 = .ok (.getfield 128, 3) := dk_180 0 128 (dk_at dksX9_traderRead_1 13 rfl rfl)
theorem dX9_traderRead_40 : decode cX9_traderRead 40 = .ok (.ifCond .ge 11, 3) := dk_156 0 11 (dk_at dksX9_traderRead_1 16 rfl rfl)
theorem dX9_traderRead_43 : decode cX9_traderRead 43 = .ok (.aload_n 0, 1) := dk_42 (dk_at dksX9_traderRead_1 19 rfl rfl)
theorem dX9_traderRead_44 : decode cX9_traderRead 44 = .ok (.iconst 4, 1) := dk_7 (dk_at dksX9_traderRead_1 20 rfl rfl)
theorem dX9_traderRead_45 : decode cX9_traderRead 45 = .ok (.invokevirtual 121, 3) := dk_182 0 121 (dk_at dksX9_traderRead_1 21 rfl rfl)
theorem dX9_traderRead_48 : decode cX9_traderRead 48 = .ok (.ifCond .eq 7, 3) := dk_153 0 7 (dk_at dksX9_traderRead_2 0 rfl rfl)
theorem dX9_traderRead_51 : decode cX9_traderRead 51 = .ok (.iconst 1, 1) := dk_4 (dk_at dksX9_traderRead_2 3 rfl rfl)
theorem dX9_traderRead_52 : decode cX9_traderRead 52 = .ok (.goto 4, 3) := dk_167 0 4 (dk_at dksX9_traderRead_2 4 rfl rfl)
theorem dX9_traderRead_55 : decode cX9_traderRead 55 = .ok (.iconst 0, 1) := dk_3 (dk_at dksX9_traderRead_2 7 rfl rfl)
theorem dX9_traderRead_56 : decode cX9_traderRead 56 = .ok (.ireturn, 1) := dk_172 (dk_at dksX9_traderRead_2 8 rfl rfl)
abbrev cX9_startLine : ByteArray := prog_17_method_20_code
def yX9_startLine : MethodName := ⟨RX9, "startLine", "()Z"⟩
def dkwX9_startLine_3 : List UInt8 := [16, 7, 96, 42, 180, 0, 128, 79, 4, 172]
abbrev dktX9_startLine_3 : List UInt8 := dkwX9_startLine_3 ++ []
def dkwX9_startLine_2 : List UInt8 := [79, 42, 182, 0, 131, 42, 3, 17, 3, 232, 182, 0, 138, 154, 0, 5, 3, 172, 42, 180, 0, 20, 27]
abbrev dktX9_startLine_2 : List UInt8 := dkwX9_startLine_2 ++ dktX9_startLine_3
def dkwX9_startLine_1 : List UInt8 := [27, 16, 6, 96, 46, 4, 160, 0, 9, 42, 6, 182, 0, 121, 172, 42, 180, 0, 20, 27, 16, 6, 96, 4]
abbrev dktX9_startLine_1 : List UInt8 := dkwX9_startLine_1 ++ dktX9_startLine_2
def dkwX9_startLine_0 : List UInt8 := [42, 182, 0, 142, 154, 0, 5, 3, 172, 16, 32, 16, 8, 42, 180, 0, 128, 104, 96, 60, 42, 180, 0, 20]
abbrev dktX9_startLine_0 : List UInt8 := dkwX9_startLine_0 ++ dktX9_startLine_1
theorem dksX9_startLine_0 : cX9_startLine.data.toList.drop 0 = dktX9_startLine_0 := by decide +kernel
theorem dksX9_startLine_1 : cX9_startLine.data.toList.drop 24 = dktX9_startLine_1 := dk_seg dksX9_startLine_0 24 rfl rfl
theorem dksX9_startLine_2 : cX9_startLine.data.toList.drop 48 = dktX9_startLine_2 := dk_seg dksX9_startLine_1 24 rfl rfl
theorem dksX9_startLine_3 : cX9_startLine.data.toList.drop 71 = dktX9_startLine_3 := dk_seg dksX9_startLine_2 23 rfl rfl
theorem dX9_startLine_0 : decode cX9_startLine 0 = .ok (.aload_n 0, 1) := dk_42 (dk_at dksX9_startLine_0 0 rfl rfl)
theorem dX9_startLine_1 : decode cX9_startLine 1 = .ok (.invokevirtual 142, 3) := dk_182 0 142 (dk_at dksX9_startLine_0 1 rfl rfl)
theorem dX9_startLine_4 : decode cX9_startLine 4 = .ok (.ifCond .ne 5, 3) := dk_154 0 5 (dk_at dksX9_startLine_0 4 rfl rfl)
theorem dX9_startLine_7 : decode cX9_startLine 7 = .ok (.iconst 0, 1) := dk_3 (dk_at dksX9_startLine_0 7 rfl rfl)
theorem dX9_startLine_8 : decode cX9_startLine 8 = .ok (.ireturn, 1) := dk_172 (dk_at dksX9_startLine_0 8 rfl rfl)
theorem dX9_startLine_9 : decode cX9_startLine 9 = .ok (.bipush 32, 2) := dk_16 32 (dk_at dksX9_startLine_0 9 rfl rfl)
theorem dX9_startLine_11 : decode cX9_startLine 11 = .ok (.bipush 8, 2) := dk_16 8 (dk_at dksX9_startLine_0 11 rfl rfl)
theorem dX9_startLine_13 : decode cX9_startLine 13 = .ok (.aload_n 0, 1) := dk_42 (dk_at dksX9_startLine_0 13 rfl rfl)
theorem dX9_startLine_14 : decode cX9_startLine 14 = .ok (.getfield 128, 3) := dk_180 0 128 (dk_at dksX9_startLine_0 14 rfl rfl)
theorem dX9_startLine_17 : decode cX9_startLine 17 = .ok (.imul, 1) := dk_104 (dk_at dksX9_startLine_0 17 rfl rfl)
theorem dX9_startLine_18 : decode cX9_startLine 18 = .ok (.iadd, 1) := dk_96 (dk_at dksX9_startLine_0 18 rfl rfl)
theorem dX9_startLine_19 : decode cX9_startLine 19 = .ok (.istore_n 1, 1) := dk_60 (dk_at dksX9_startLine_0 19 rfl rfl)
theorem dX9_startLine_20 : decode cX9_startLine 20 = .ok (.aload_n 0, 1) := dk_42 (dk_at dksX9_startLine_0 20 rfl rfl)
theorem dX9_startLine_21 : decode cX9_startLine 21 = .ok (.getfield 20, 3) := dk_180 0 20 (dk_at dksX9_startLine_0 21 rfl rfl)
theorem dX9_startLine_24 : decode cX9_startLine 24 = .ok (.iload_n 1, 1) := dk_27 (dk_at dksX9_startLine_1 0 rfl rfl)
theorem dX9_startLine_25 : decode cX9_startLine 25 = .ok (.bipush 6, 2) := dk_16 6 (dk_at dksX9_startLine_1 1 rfl rfl)
theorem dX9_startLine_27 : decode cX9_startLine 27 = .ok (.iadd, 1) := dk_96 (dk_at dksX9_startLine_1 3 rfl rfl)
theorem dX9_startLine_28 : decode cX9_startLine 28 = .ok (.iaload, 1) := dk_46 (dk_at dksX9_startLine_1 4 rfl rfl)
theorem dX9_startLine_29 : decode cX9_startLine 29 = .ok (.iconst 1, 1) := dk_4 (dk_at dksX9_startLine_1 5 rfl rfl)
theorem dX9_startLine_30 : decode cX9_startLine 30 = .ok (.if_icmp .ne 9, 3) := dk_160 0 9 (dk_at dksX9_startLine_1 6 rfl rfl)
theorem dX9_startLine_33 : decode cX9_startLine 33 = .ok (.aload_n 0, 1) := dk_42 (dk_at dksX9_startLine_1 9 rfl rfl)
theorem dX9_startLine_34 : decode cX9_startLine 34 = .ok (.iconst 3, 1) := dk_6 (dk_at dksX9_startLine_1 10 rfl rfl)
theorem dX9_startLine_35 : decode cX9_startLine 35 = .ok (.invokevirtual 121, 3) := dk_182 0 121 (dk_at dksX9_startLine_1 11 rfl rfl)
theorem dX9_startLine_38 : decode cX9_startLine 38 = .ok (.ireturn, 1) := dk_172 (dk_at dksX9_startLine_1 14 rfl rfl)
theorem dX9_startLine_39 : decode cX9_startLine 39 = .ok (.aload_n 0, 1) := dk_42 (dk_at dksX9_startLine_1 15 rfl rfl)
theorem dX9_startLine_40 : decode cX9_startLine 40 = .ok (.getfield 20, 3) := dk_180 0 20 (dk_at dksX9_startLine_1 16 rfl rfl)
theorem dX9_startLine_43 : decode cX9_startLine 43 = .ok (.iload_n 1, 1) := dk_27 (dk_at dksX9_startLine_1 19 rfl rfl)
theorem dX9_startLine_44 : decode cX9_startLine 44 = .ok (.bipush 6, 2) := dk_16 6 (dk_at dksX9_startLine_1 20 rfl rfl)
theorem dX9_startLine_46 : decode cX9_startLine 46 = .ok (.iadd, 1) := dk_96 (dk_at dksX9_startLine_1 22 rfl rfl)
theorem dX9_startLine_47 : decode cX9_startLine 47 = .ok (.iconst 1, 1) := dk_4 (dk_at dksX9_startLine_1 23 rfl rfl)
theorem dX9_startLine_48 : decode cX9_startLine 48 = .ok (.iastore, 1) := dk_79 (dk_at dksX9_startLine_2 0 rfl rfl)
theorem dX9_startLine_49 : decode cX9_startLine 49 = .ok (.aload_n 0, 1) := dk_42 (dk_at dksX9_startLine_2 1 rfl rfl)
theorem dX9_startLine_50 : decode cX9_startLine 50 = .ok (.invokevirtual 131, 3) := dk_182 0 131 (dk_at dksX9_startLine_2 2 rfl rfl)
theorem dX9_startLine_53 : decode cX9_startLine 53 = .ok (.aload_n 0, 1) := dk_42 (dk_at dksX9_startLine_2 5 rfl rfl)
theorem dX9_startLine_54 : decode cX9_startLine 54 = .ok (.iconst 0, 1) := dk_3 (dk_at dksX9_startLine_2 6 rfl rfl)
theorem dX9_startLine_55 : decode cX9_startLine 55 = .ok (.sipush 1000, 3) := dk_17 3 232 (dk_at dksX9_startLine_2 7 rfl rfl)
theorem dX9_startLine_58 : decode cX9_startLine 58 = .ok (.invokevirtual 138, 3) := dk_182 0 138 (dk_at dksX9_startLine_2 10 rfl rfl)
theorem dX9_startLine_61 : decode cX9_startLine 61 = .ok (.ifCond .ne 5, 3) := dk_154 0 5 (dk_at dksX9_startLine_2 13 rfl rfl)
theorem dX9_startLine_64 : decode cX9_startLine 64 = .ok (.iconst 0, 1) := dk_3 (dk_at dksX9_startLine_2 16 rfl rfl)
theorem dX9_startLine_65 : decode cX9_startLine 65 = .ok (.ireturn, 1) := dk_172 (dk_at dksX9_startLine_2 17 rfl rfl)
theorem dX9_startLine_66 : decode cX9_startLine 66 = .ok (.aload_n 0, 1) := dk_42 (dk_at dksX9_startLine_2 18 rfl rfl)
theorem dX9_startLine_67 : decode cX9_startLine 67 = .ok (.getfield 20, 3) := dk_180 0 20 (dk_at dksX9_startLine_2 19 rfl rfl)
theorem dX9_startLine_70 : decode cX9_startLine 70 = .ok (.iload_n 1, 1) := dk_27 (dk_at dksX9_startLine_2 22 rfl rfl)
theorem dX9_startLine_71 : decode cX9_startLine 71 = .ok (.bipush 7, 2) := dk_16 7 (dk_at dksX9_startLine_3 0 rfl rfl)
theorem dX9_startLine_73 : decode cX9_startLine 73 = .ok (.iadd, 1) := dk_96 (dk_at dksX9_startLine_3 2 rfl rfl)
theorem dX9_startLine_74 : decode cX9_startLine 74 = .ok (.aload_n 0, 1) := dk_42 (dk_at dksX9_startLine_3 3 rfl rfl)
theorem dX9_startLine_75 : decode cX9_startLine 75 = .ok (.getfield 128, 3) := dk_180 0 128 (dk_at dksX9_startLine_3 4 rfl rfl)
theorem dX9_startLine_78 : decode cX9_startLine 78 = .ok (.iastore, 1) := dk_79 (dk_at dksX9_startLine_3 7 rfl rfl)
theorem dX9_startLine_79 : decode cX9_startLine 79 = .ok (.iconst 1, 1) := dk_4 (dk_at dksX9_startLine_3 8 rfl rfl)
theorem dX9_startLine_80 : decode cX9_startLine 80 = .ok (.ireturn, 1) := dk_172 (dk_at dksX9_startLine_3 9 rfl rfl)
abbrev cX9_saleLine : ByteArray := prog_17_method_22_code
def yX9_saleLine : MethodName := ⟨RX9, "saleLine", "()Z"⟩
def dkwX9_saleLine_2 : List UInt8 := [172, 42, 180, 0, 32, 16, 11, 92, 46, 4, 96, 79, 4, 172]
abbrev dktX9_saleLine_2 : List UInt8 := dkwX9_saleLine_2 ++ []
def dkwX9_saleLine_1 : List UInt8 := [16, 48, 7, 42, 180, 0, 32, 16, 11, 46, 104, 96, 7, 4, 18, 87, 4, 182, 0, 146, 154, 0, 5, 3]
abbrev dktX9_saleLine_1 : List UInt8 := dkwX9_saleLine_1 ++ dktX9_saleLine_2
def dkwX9_saleLine_0 : List UInt8 := [42, 180, 0, 32, 16, 11, 46, 16, 12, 160, 0, 9, 42, 5, 182, 0, 121, 172, 42, 42, 180, 0, 23]
abbrev dktX9_saleLine_0 : List UInt8 := dkwX9_saleLine_0 ++ dktX9_saleLine_1
theorem dksX9_saleLine_0 : cX9_saleLine.data.toList.drop 0 = dktX9_saleLine_0 := by decide +kernel
theorem dksX9_saleLine_1 : cX9_saleLine.data.toList.drop 23 = dktX9_saleLine_1 := dk_seg dksX9_saleLine_0 23 rfl rfl
theorem dksX9_saleLine_2 : cX9_saleLine.data.toList.drop 47 = dktX9_saleLine_2 := dk_seg dksX9_saleLine_1 24 rfl rfl
theorem dX9_saleLine_0 : decode cX9_saleLine 0 = .ok (.aload_n 0, 1) := dk_42 (dk_at dksX9_saleLine_0 0 rfl rfl)
theorem dX9_saleLine_1 : decode cX9_saleLine 1 = .ok (.getfield 32, 3) := dk_180 0 32 (dk_at dksX9_saleLine_0 1 rfl rfl)
theorem dX9_saleLine_4 : decode cX9_saleLine 4 = .ok (.bipush 11, 2) := dk_16 11 (dk_at dksX9_saleLine_0 4 rfl rfl)
theorem dX9_saleLine_6 : decode cX9_saleLine 6 = .ok (.iaload, 1) := dk_46 (dk_at dksX9_saleLine_0 6 rfl rfl)
theorem dX9_saleLine_7 : decode cX9_saleLine 7 = .ok (.bipush 12, 2) := dk_16 12 (dk_at dksX9_saleLine_0 7 rfl rfl)
theorem dX9_saleLine_9 : decode cX9_saleLine 9 = .ok (.if_icmp .ne 9, 3) := dk_160 0 9 (dk_at dksX9_saleLine_0 9 rfl rfl)
theorem dX9_saleLine_12 : decode cX9_saleLine 12 = .ok (.aload_n 0, 1) := dk_42 (dk_at dksX9_saleLine_0 12 rfl rfl)
theorem dX9_saleLine_13 : decode cX9_saleLine 13 = .ok (.iconst 2, 1) := dk_5 (dk_at dksX9_saleLine_0 13 rfl rfl)
theorem dX9_saleLine_14 : decode cX9_saleLine 14 = .ok (.invokevirtual 121, 3) := dk_182 0 121 (dk_at dksX9_saleLine_0 14 rfl rfl)
theorem dX9_saleLine_17 : decode cX9_saleLine 17 = .ok (.ireturn, 1) := dk_172 (dk_at dksX9_saleLine_0 17 rfl rfl)
theorem dX9_saleLine_18 : decode cX9_saleLine 18 = .ok (.aload_n 0, 1) := dk_42 (dk_at dksX9_saleLine_0 18 rfl rfl)
theorem dX9_saleLine_19 : decode cX9_saleLine 19 = .ok (.aload_n 0, 1) := dk_42 (dk_at dksX9_saleLine_0 19 rfl rfl)
theorem dX9_saleLine_20 : decode cX9_saleLine 20 = .ok (.getfield 23, 3) := dk_180 0 23 (dk_at dksX9_saleLine_0 20 rfl rfl)
theorem dX9_saleLine_23 : decode cX9_saleLine 23 = .ok (.bipush 48, 2) := dk_16 48 (dk_at dksX9_saleLine_1 0 rfl rfl)
theorem dX9_saleLine_25 : decode cX9_saleLine 25 = .ok (.iconst 4, 1) := dk_7 (dk_at dksX9_saleLine_1 2 rfl rfl)
theorem dX9_saleLine_26 : decode cX9_saleLine 26 = .ok (.aload_n 0, 1) := dk_42 (dk_at dksX9_saleLine_1 3 rfl rfl)
theorem dX9_saleLine_27 : decode cX9_saleLine 27 = .ok (.getfield 32, 3) := dk_180 0 32 (dk_at dksX9_saleLine_1 4 rfl rfl)
theorem dX9_saleLine_30 : decode cX9_saleLine 30 = .ok (.bipush 11, 2) := dk_16 11 (dk_at dksX9_saleLine_1 7 rfl rfl)
theorem dX9_saleLine_32 : decode cX9_saleLine 32 = .ok (.iaload, 1) := dk_46 (dk_at dksX9_saleLine_1 9 rfl rfl)
theorem dX9_saleLine_33 : decode cX9_saleLine 33 = .ok (.imul, 1) := dk_104 (dk_at dksX9_saleLine_1 10 rfl rfl)
theorem dX9_saleLine_34 : decode cX9_saleLine 34 = .ok (.iadd, 1) := dk_96 (dk_at dksX9_saleLine_1 11 rfl rfl)
theorem dX9_saleLine_35 : decode cX9_saleLine 35 = .ok (.iconst 4, 1) := dk_7 (dk_at dksX9_saleLine_1 12 rfl rfl)
theorem dX9_saleLine_36 : decode cX9_saleLine 36 = .ok (.iconst 1, 1) := dk_4 (dk_at dksX9_saleLine_1 13 rfl rfl)
theorem dX9_saleLine_37 : decode cX9_saleLine 37 = .ok (.ldc 87, 2) := dk_18 87 (dk_at dksX9_saleLine_1 14 rfl rfl)
theorem dX9_saleLine_39 : decode cX9_saleLine 39 = .ok (.iconst 1, 1) := dk_4 (dk_at dksX9_saleLine_1 16 rfl rfl)
theorem dX9_saleLine_40 : decode cX9_saleLine 40 = .ok (.invokevirtual 146, 3) := dk_182 0 146 (dk_at dksX9_saleLine_1 17 rfl rfl)
theorem dX9_saleLine_43 : decode cX9_saleLine 43 = .ok (.ifCond .ne 5, 3) := dk_154 0 5 (dk_at dksX9_saleLine_1 20 rfl rfl)
theorem dX9_saleLine_46 : decode cX9_saleLine 46 = .ok (.iconst 0, 1) := dk_3 (dk_at dksX9_saleLine_1 23 rfl rfl)
theorem dX9_saleLine_47 : decode cX9_saleLine 47 = .ok (.ireturn, 1) := dk_172 (dk_at dksX9_saleLine_2 0 rfl rfl)
theorem dX9_saleLine_48 : decode cX9_saleLine 48 = .ok (.aload_n 0, 1) := dk_42 (dk_at dksX9_saleLine_2 1 rfl rfl)
theorem dX9_saleLine_49 : decode cX9_saleLine 49 = .ok (.getfield 32, 3) := dk_180 0 32 (dk_at dksX9_saleLine_2 2 rfl rfl)
theorem dX9_saleLine_52 : decode cX9_saleLine 52 = .ok (.bipush 11, 2) := dk_16 11 (dk_at dksX9_saleLine_2 5 rfl rfl)
theorem dX9_saleLine_54 : decode cX9_saleLine 54 = .ok (.dup2, 1) := dk_92 (dk_at dksX9_saleLine_2 7 rfl rfl)
theorem dX9_saleLine_55 : decode cX9_saleLine 55 = .ok (.iaload, 1) := dk_46 (dk_at dksX9_saleLine_2 8 rfl rfl)
theorem dX9_saleLine_56 : decode cX9_saleLine 56 = .ok (.iconst 1, 1) := dk_4 (dk_at dksX9_saleLine_2 9 rfl rfl)
theorem dX9_saleLine_57 : decode cX9_saleLine 57 = .ok (.iadd, 1) := dk_96 (dk_at dksX9_saleLine_2 10 rfl rfl)
theorem dX9_saleLine_58 : decode cX9_saleLine 58 = .ok (.iastore, 1) := dk_79 (dk_at dksX9_saleLine_2 11 rfl rfl)
theorem dX9_saleLine_59 : decode cX9_saleLine 59 = .ok (.iconst 1, 1) := dk_4 (dk_at dksX9_saleLine_2 12 rfl rfl)
theorem dX9_saleLine_60 : decode cX9_saleLine 60 = .ok (.ireturn, 1) := dk_172 (dk_at dksX9_saleLine_2 13 rfl rfl)
abbrev cX9_rowLine : ByteArray := prog_17_method_21_code
def yX9_rowLine : MethodName := ⟨RX9, "rowLine", "([IIIIII)Z"⟩
def dkwX9_rowLine_6 : List UInt8 := [182, 0, 131, 4, 172]
abbrev dktX9_rowLine_6 : List UInt8 := dkwX9_rowLine_6 ++ []
def dkwX9_rowLine_5 : List UInt8 := [180, 0, 78, 16, 10, 159, 0, 9, 42, 5, 182, 0, 121, 172, 43, 28, 7, 96, 42, 180, 0, 78, 79, 42]
abbrev dktX9_rowLine_5 : List UInt8 := dkwX9_rowLine_5 ++ dktX9_rowLine_6
def dkwX9_rowLine_4 : List UInt8 := [180, 0, 67, 6, 159, 0, 9, 42, 4, 182, 0, 121, 172, 42, 180, 0, 78, 8, 159, 0, 18, 42]
abbrev dktX9_rowLine_4 : List UInt8 := dkwX9_rowLine_4 ++ dktX9_rowLine_5
def dkwX9_rowLine_3 : List UInt8 := [154, 0, 5, 3, 172, 43, 28, 6, 96, 42, 180, 0, 128, 79, 29, 8, 162, 0, 5, 4, 172, 42]
abbrev dktX9_rowLine_3 : List UInt8 := dkwX9_rowLine_3 ++ dktX9_rowLine_4
def dkwX9_rowLine_2 : List UInt8 := [154, 0, 5, 3, 172, 43, 28, 5, 96, 42, 180, 0, 128, 79, 42, 21, 6, 21, 5, 182, 0, 138]
abbrev dktX9_rowLine_2 : List UInt8 := dkwX9_rowLine_2 ++ dktX9_rowLine_3
def dkwX9_rowLine_1 : List UInt8 := [182, 0, 138, 154, 0, 5, 3, 172, 43, 28, 4, 96, 42, 180, 0, 128, 79, 42, 3, 21, 4, 182, 0, 138]
abbrev dktX9_rowLine_1 : List UInt8 := dkwX9_rowLine_1 ++ dktX9_rowLine_2
def dkwX9_rowLine_0 : List UInt8 := [42, 182, 0, 142, 154, 0, 5, 3, 172, 43, 28, 42, 180, 0, 128, 79, 42, 182, 0, 131, 42, 3, 16, 63]
abbrev dktX9_rowLine_0 : List UInt8 := dkwX9_rowLine_0 ++ dktX9_rowLine_1
theorem dksX9_rowLine_0 : cX9_rowLine.data.toList.drop 0 = dktX9_rowLine_0 := by decide +kernel
theorem dksX9_rowLine_1 : cX9_rowLine.data.toList.drop 24 = dktX9_rowLine_1 := dk_seg dksX9_rowLine_0 24 rfl rfl
theorem dksX9_rowLine_2 : cX9_rowLine.data.toList.drop 48 = dktX9_rowLine_2 := dk_seg dksX9_rowLine_1 24 rfl rfl
theorem dksX9_rowLine_3 : cX9_rowLine.data.toList.drop 70 = dktX9_rowLine_3 := dk_seg dksX9_rowLine_2 22 rfl rfl
theorem dksX9_rowLine_4 : cX9_rowLine.data.toList.drop 92 = dktX9_rowLine_4 := dk_seg dksX9_rowLine_3 22 rfl rfl
theorem dksX9_rowLine_5 : cX9_rowLine.data.toList.drop 114 = dktX9_rowLine_5 := dk_seg dksX9_rowLine_4 22 rfl rfl
theorem dksX9_rowLine_6 : cX9_rowLine.data.toList.drop 138 = dktX9_rowLine_6 := dk_seg dksX9_rowLine_5 24 rfl rfl
theorem dX9_rowLine_0 : decode cX9_rowLine 0 = .ok (.aload_n 0, 1) := dk_42 (dk_at dksX9_rowLine_0 0 rfl rfl)
theorem dX9_rowLine_1 : decode cX9_rowLine 1 = .ok (.invokevirtual 142, 3) := dk_182 0 142 (dk_at dksX9_rowLine_0 1 rfl rfl)
theorem dX9_rowLine_4 : decode cX9_rowLine 4 = .ok (.ifCond .ne 5, 3) := dk_154 0 5 (dk_at dksX9_rowLine_0 4 rfl rfl)
theorem dX9_rowLine_7 : decode cX9_rowLine 7 = .ok (.iconst 0, 1) := dk_3 (dk_at dksX9_rowLine_0 7 rfl rfl)
theorem dX9_rowLine_8 : decode cX9_rowLine 8 = .ok (.ireturn, 1) := dk_172 (dk_at dksX9_rowLine_0 8 rfl rfl)
theorem dX9_rowLine_9 : decode cX9_rowLine 9 = .ok (.aload_n 1, 1) := dk_43 (dk_at dksX9_rowLine_0 9 rfl rfl)
theorem dX9_rowLine_10 : decode cX9_rowLine 10 = .ok (.iload_n 2, 1) := dk_28 (dk_at dksX9_rowLine_0 10 rfl rfl)
theorem dX9_rowLine_11 : decode cX9_rowLine 11 = .ok (.aload_n 0, 1) := dk_42 (dk_at dksX9_rowLine_0 11 rfl rfl)
theorem dX9_rowLine_12 : decode cX9_rowLine 12 = .ok (.getfield 128, 3) := dk_180 0 128 (dk_at dksX9_rowLine_0 12 rfl rfl)
theorem dX9_rowLine_15 : decode cX9_rowLine 15 = .ok (.iastore, 1) := dk_79 (dk_at dksX9_rowLine_0 15 rfl rfl)
theorem dX9_rowLine_16 : decode cX9_rowLine 16 = .ok (.aload_n 0, 1) := dk_42 (dk_at dksX9_rowLine_0 16 rfl rfl)
theorem dX9_rowLine_17 : decode cX9_rowLine 17 = .ok (.invokevirtual 131, 3) := dk_182 0 131 (dk_at dksX9_rowLine_0 17 rfl rfl)
theorem dX9_rowLine_20 : decode cX9_rowLine 20 = .ok (.aload_n 0, 1) := dk_42 (dk_at dksX9_rowLine_0 20 rfl rfl)
theorem dX9_rowLine_21 : decode cX9_rowLine 21 = .ok (.iconst 0, 1) := dk_3 (dk_at dksX9_rowLine_0 21 rfl rfl)
theorem dX9_rowLine_22 : decode cX9_rowLine 22 = .ok (.bipush 63, 2) := dk_16 63 (dk_at dksX9_rowLine_0 22 rfl rfl)
theorem dX9_rowLine_24 : decode cX9_rowLine 24 = .ok (.invokevirtual 138, 3) := dk_182 0 138 (dk_at dksX9_rowLine_1 0 rfl rfl)
theorem dX9_rowLine_27 : decode cX9_rowLine 27 = .ok (.ifCond .ne 5, 3) := dk_154 0 5 (dk_at dksX9_rowLine_1 3 rfl rfl)
theorem dX9_rowLine_30 : decode cX9_rowLine 30 = .ok (.iconst 0, 1) := dk_3 (dk_at dksX9_rowLine_1 6 rfl rfl)
theorem dX9_rowLine_31 : decode cX9_rowLine 31 = .ok (.ireturn, 1) := dk_172 (dk_at dksX9_rowLine_1 7 rfl rfl)
theorem dX9_rowLine_32 : decode cX9_rowLine 32 = .ok (.aload_n 1, 1) := dk_43 (dk_at dksX9_rowLine_1 8 rfl rfl)
theorem dX9_rowLine_33 : decode cX9_rowLine 33 = .ok (.iload_n 2, 1) := dk_28 (dk_at dksX9_rowLine_1 9 rfl rfl)
theorem dX9_rowLine_34 : decode cX9_rowLine 34 = .ok (.iconst 1, 1) := dk_4 (dk_at dksX9_rowLine_1 10 rfl rfl)
theorem dX9_rowLine_35 : decode cX9_rowLine 35 = .ok (.iadd, 1) := dk_96 (dk_at dksX9_rowLine_1 11 rfl rfl)
theorem dX9_rowLine_36 : decode cX9_rowLine 36 = .ok (.aload_n 0, 1) := dk_42 (dk_at dksX9_rowLine_1 12 rfl rfl)
theorem dX9_rowLine_37 : decode cX9_rowLine 37 = .ok (.getfield 128, 3) := dk_180 0 128 (dk_at dksX9_rowLine_1 13 rfl rfl)
theorem dX9_rowLine_40 : decode cX9_rowLine 40 = .ok (.iastore, 1) := dk_79 (dk_at dksX9_rowLine_1 16 rfl rfl)
theorem dX9_rowLine_41 : decode cX9_rowLine 41 = .ok (.aload_n 0, 1) := dk_42 (dk_at dksX9_rowLine_1 17 rfl rfl)
theorem dX9_rowLine_42 : decode cX9_rowLine 42 = .ok (.iconst 0, 1) := dk_3 (dk_at dksX9_rowLine_1 18 rfl rfl)
theorem dX9_rowLine_43 : decode cX9_rowLine 43 = .ok (.iload 4, 2) := dk_21 4 (dk_at dksX9_rowLine_1 19 rfl rfl)
theorem dX9_rowLine_45 : decode cX9_rowLine 45 = .ok (.invokevirtual 138, 3) := dk_182 0 138 (dk_at dksX9_rowLine_1 21 rfl rfl)
theorem dX9_rowLine_48 : decode cX9_rowLine 48 = .ok (.ifCond .ne 5, 3) := dk_154 0 5 (dk_at dksX9_rowLine_2 0 rfl rfl)
theorem dX9_rowLine_51 : decode cX9_rowLine 51 = .ok (.iconst 0, 1) := dk_3 (dk_at dksX9_rowLine_2 3 rfl rfl)
theorem dX9_rowLine_52 : decode cX9_rowLine 52 = .ok (.ireturn, 1) := dk_172 (dk_at dksX9_rowLine_2 4 rfl rfl)
theorem dX9_rowLine_53 : decode cX9_rowLine 53 = .ok (.aload_n 1, 1) := dk_43 (dk_at dksX9_rowLine_2 5 rfl rfl)
theorem dX9_rowLine_54 : decode cX9_rowLine 54 = .ok (.iload_n 2, 1) := dk_28 (dk_at dksX9_rowLine_2 6 rfl rfl)
theorem dX9_rowLine_55 : decode cX9_rowLine 55 = .ok (.iconst 2, 1) := dk_5 (dk_at dksX9_rowLine_2 7 rfl rfl)
theorem dX9_rowLine_56 : decode cX9_rowLine 56 = .ok (.iadd, 1) := dk_96 (dk_at dksX9_rowLine_2 8 rfl rfl)
theorem dX9_rowLine_57 : decode cX9_rowLine 57 = .ok (.aload_n 0, 1) := dk_42 (dk_at dksX9_rowLine_2 9 rfl rfl)
theorem dX9_rowLine_58 : decode cX9_rowLine 58 = .ok (.getfield 128, 3) := dk_180 0 128 (dk_at dksX9_rowLine_2 10 rfl rfl)
theorem dX9_rowLine_61 : decode cX9_rowLine 61 = .ok (.iastore, 1) := dk_79 (dk_at dksX9_rowLine_2 13 rfl rfl)
theorem dX9_rowLine_62 : decode cX9_rowLine 62 = .ok (.aload_n 0, 1) := dk_42 (dk_at dksX9_rowLine_2 14 rfl rfl)
theorem dX9_rowLine_63 : decode cX9_rowLine 63 = .ok (.iload 6, 2) := dk_21 6 (dk_at dksX9_rowLine_2 15 rfl rfl)
theorem dX9_rowLine_65 : decode cX9_rowLine 65 = .ok (.iload 5, 2) := dk_21 5 (dk_at dksX9_rowLine_2 17 rfl rfl)
theorem dX9_rowLine_67 : decode cX9_rowLine 67 = .ok (.invokevirtual 138, 3) := dk_182 0 138 (dk_at dksX9_rowLine_2 19 rfl rfl)
theorem dX9_rowLine_70 : decode cX9_rowLine 70 = .ok (.ifCond .ne 5, 3) := dk_154 0 5 (dk_at dksX9_rowLine_3 0 rfl rfl)
theorem dX9_rowLine_73 : decode cX9_rowLine 73 = .ok (.iconst 0, 1) := dk_3 (dk_at dksX9_rowLine_3 3 rfl rfl)
theorem dX9_rowLine_74 : decode cX9_rowLine 74 = .ok (.ireturn, 1) := dk_172 (dk_at dksX9_rowLine_3 4 rfl rfl)
theorem dX9_rowLine_75 : decode cX9_rowLine 75 = .ok (.aload_n 1, 1) := dk_43 (dk_at dksX9_rowLine_3 5 rfl rfl)
theorem dX9_rowLine_76 : decode cX9_rowLine 76 = .ok (.iload_n 2, 1) := dk_28 (dk_at dksX9_rowLine_3 6 rfl rfl)
theorem dX9_rowLine_77 : decode cX9_rowLine 77 = .ok (.iconst 3, 1) := dk_6 (dk_at dksX9_rowLine_3 7 rfl rfl)
theorem dX9_rowLine_78 : decode cX9_rowLine 78 = .ok (.iadd, 1) := dk_96 (dk_at dksX9_rowLine_3 8 rfl rfl)
theorem dX9_rowLine_79 : decode cX9_rowLine 79 = .ok (.aload_n 0, 1) := dk_42 (dk_at dksX9_rowLine_3 9 rfl rfl)
theorem dX9_rowLine_80 : decode cX9_rowLine 80 = .ok (.getfield 128, 3) := dk_180 0 128 (dk_at dksX9_rowLine_3 10 rfl rfl)
theorem dX9_rowLine_83 : decode cX9_rowLine 83 = .ok (.iastore, 1) := dk_79 (dk_at dksX9_rowLine_3 13 rfl rfl)
theorem dX9_rowLine_84 : decode cX9_rowLine 84 = .ok (.iload_n 3, 1) := dk_29 (dk_at dksX9_rowLine_3 14 rfl rfl)
theorem dX9_rowLine_85 : decode cX9_rowLine 85 = .ok (.iconst 5, 1) := dk_8 (dk_at dksX9_rowLine_3 15 rfl rfl)
theorem dX9_rowLine_86 : decode cX9_rowLine 86 = .ok (.if_icmp .ge 5, 3) := dk_162 0 5 (dk_at dksX9_rowLine_3 16 rfl rfl)
theorem dX9_rowLine_89 : decode cX9_rowLine 89 = .ok (.iconst 1, 1) := dk_4 (dk_at dksX9_rowLine_3 19 rfl rfl)
theorem dX9_rowLine_90 : decode cX9_rowLine 90 = .ok (.ireturn, 1) := dk_172 (dk_at dksX9_rowLine_3 20 rfl rfl)
theorem dX9_rowLine_91 : decode cX9_rowLine 91 = .ok (.aload_n 0, 1) := dk_42 (dk_at dksX9_rowLine_3 21 rfl rfl)
theorem dX9_rowLine_92 : decode cX9_rowLine 92 = .ok (.getfield 67, 3) := dk_180 0 67 (dk_at dksX9_rowLine_4 0 rfl rfl)
theorem dX9_rowLine_95 : decode cX9_rowLine 95 = .ok (.iconst 3, 1) := dk_6 (dk_at dksX9_rowLine_4 3 rfl rfl)
theorem dX9_rowLine_96 : decode cX9_rowLine 96 = .ok (.if_icmp .eq 9, 3) := dk_159 0 9 (dk_at dksX9_rowLine_4 4 rfl rfl)
theorem dX9_rowLine_99 : decode cX9_rowLine 99 = .ok (.aload_n 0, 1) := dk_42 (dk_at dksX9_rowLine_4 7 rfl rfl)
theorem dX9_rowLine_100 : decode cX9_rowLine 100 = .ok (.iconst 1, 1) := dk_4 (dk_at dksX9_rowLine_4 8 rfl rfl)
theorem dX9_rowLine_101 : decode cX9_rowLine 101 = .ok (.invokevirtual 121, 3) := dk_182 0 121 (dk_at dksX9_rowLine_4 9 rfl rfl)
theorem dX9_rowLine_104 : decode cX9_rowLine 104 = .ok (.ireturn, 1) := dk_172 (dk_at dksX9_rowLine_4 12 rfl rfl)
theorem dX9_rowLine_105 : decode cX9_rowLine 105 = .ok (.aload_n 0, 1) := dk_42 (dk_at dksX9_rowLine_4 13 rfl rfl)
theorem dX9_rowLine_106 : decode cX9_rowLine 106 = .ok (.getfield 78, 3) := dk_180 0 78 (dk_at dksX9_rowLine_4 14 rfl rfl)
theorem dX9_rowLine_109 : decode cX9_rowLine 109 = .ok (.iconst 5, 1) := dk_8 (dk_at dksX9_rowLine_4 17 rfl rfl)
theorem dX9_rowLine_110 : decode cX9_rowLine 110 = .ok (.if_icmp .eq 18, 3) := dk_159 0 18 (dk_at dksX9_rowLine_4 18 rfl rfl)
theorem dX9_rowLine_113 : decode cX9_rowLine 113 = .ok (.aload_n 0, 1) := dk_42 (dk_at dksX9_rowLine_4 21 rfl rfl)
theorem dX9_rowLine_114 : decode cX9_rowLine 114 = .ok (.getfield 78, 3) := dk_180 0 78 (dk_at dksX9_rowLine_5 0 rfl rfl)
theorem dX9_rowLine_117 : decode cX9_rowLine 117 = .ok (.bipush 10, 2) := dk_16 10 (dk_at dksX9_rowLine_5 3 rfl rfl)
theorem dX9_rowLine_119 : decode cX9_rowLine 119 = .ok (.if_icmp .eq 9, 3) := dk_159 0 9 (dk_at dksX9_rowLine_5 5 rfl rfl)
theorem dX9_rowLine_122 : decode cX9_rowLine 122 = .ok (.aload_n 0, 1) := dk_42 (dk_at dksX9_rowLine_5 8 rfl rfl)
theorem dX9_rowLine_123 : decode cX9_rowLine 123 = .ok (.iconst 2, 1) := dk_5 (dk_at dksX9_rowLine_5 9 rfl rfl)
theorem dX9_rowLine_124 : decode cX9_rowLine 124 = .ok (.invokevirtual 121, 3) := dk_182 0 121 (dk_at dksX9_rowLine_5 10 rfl rfl)
theorem dX9_rowLine_127 : decode cX9_rowLine 127 = .ok (.ireturn, 1) := dk_172 (dk_at dksX9_rowLine_5 13 rfl rfl)
theorem dX9_rowLine_128 : decode cX9_rowLine 128 = .ok (.aload_n 1, 1) := dk_43 (dk_at dksX9_rowLine_5 14 rfl rfl)
theorem dX9_rowLine_129 : decode cX9_rowLine 129 = .ok (.iload_n 2, 1) := dk_28 (dk_at dksX9_rowLine_5 15 rfl rfl)
theorem dX9_rowLine_130 : decode cX9_rowLine 130 = .ok (.iconst 4, 1) := dk_7 (dk_at dksX9_rowLine_5 16 rfl rfl)
theorem dX9_rowLine_131 : decode cX9_rowLine 131 = .ok (.iadd, 1) := dk_96 (dk_at dksX9_rowLine_5 17 rfl rfl)
theorem dX9_rowLine_132 : decode cX9_rowLine 132 = .ok (.aload_n 0, 1) := dk_42 (dk_at dksX9_rowLine_5 18 rfl rfl)
theorem dX9_rowLine_133 : decode cX9_rowLine 133 = .ok (.getfield 78, 3) := dk_180 0 78 (dk_at dksX9_rowLine_5 19 rfl rfl)
theorem dX9_rowLine_136 : decode cX9_rowLine 136 = .ok (.iastore, 1) := dk_79 (dk_at dksX9_rowLine_5 22 rfl rfl)
theorem dX9_rowLine_137 : decode cX9_rowLine 137 = .ok (.aload_n 0, 1) := dk_42 (dk_at dksX9_rowLine_5 23 rfl rfl)
theorem dX9_rowLine_138 : decode cX9_rowLine 138 = .ok (.invokevirtual 131, 3) := dk_182 0 131 (dk_at dksX9_rowLine_6 0 rfl rfl)
theorem dX9_rowLine_141 : decode cX9_rowLine 141 = .ok (.iconst 1, 1) := dk_4 (dk_at dksX9_rowLine_6 3 rfl rfl)
theorem dX9_rowLine_142 : decode cX9_rowLine 142 = .ok (.ireturn, 1) := dk_172 (dk_at dksX9_rowLine_6 4 rfl rfl)
abbrev cX9_buyLine : ByteArray := prog_17_method_23_code
def yX9_buyLine : MethodName := ⟨RX9, "buyLine", "()Z"⟩
def dkwX9_buyLine_2 : List UInt8 := [3, 172, 42, 180, 0, 32, 16, 12, 92, 46, 4, 96, 79, 4, 172]
abbrev dktX9_buyLine_2 : List UInt8 := dkwX9_buyLine_2 ++ []
def dkwX9_buyLine_1 : List UInt8 := [16, 48, 7, 42, 180, 0, 32, 16, 12, 46, 104, 96, 7, 5, 17, 39, 15, 4, 182, 0, 146, 154, 0, 5]
abbrev dktX9_buyLine_1 : List UInt8 := dkwX9_buyLine_1 ++ dktX9_buyLine_2
def dkwX9_buyLine_0 : List UInt8 := [42, 180, 0, 32, 16, 12, 46, 16, 12, 160, 0, 9, 42, 5, 182, 0, 121, 172, 42, 42, 180, 0, 26]
abbrev dktX9_buyLine_0 : List UInt8 := dkwX9_buyLine_0 ++ dktX9_buyLine_1
theorem dksX9_buyLine_0 : cX9_buyLine.data.toList.drop 0 = dktX9_buyLine_0 := by decide +kernel
theorem dksX9_buyLine_1 : cX9_buyLine.data.toList.drop 23 = dktX9_buyLine_1 := dk_seg dksX9_buyLine_0 23 rfl rfl
theorem dksX9_buyLine_2 : cX9_buyLine.data.toList.drop 47 = dktX9_buyLine_2 := dk_seg dksX9_buyLine_1 24 rfl rfl
theorem dX9_buyLine_0 : decode cX9_buyLine 0 = .ok (.aload_n 0, 1) := dk_42 (dk_at dksX9_buyLine_0 0 rfl rfl)
theorem dX9_buyLine_1 : decode cX9_buyLine 1 = .ok (.getfield 32, 3) := dk_180 0 32 (dk_at dksX9_buyLine_0 1 rfl rfl)
theorem dX9_buyLine_4 : decode cX9_buyLine 4 = .ok (.bipush 12, 2) := dk_16 12 (dk_at dksX9_buyLine_0 4 rfl rfl)
theorem dX9_buyLine_6 : decode cX9_buyLine 6 = .ok (.iaload, 1) := dk_46 (dk_at dksX9_buyLine_0 6 rfl rfl)
theorem dX9_buyLine_7 : decode cX9_buyLine 7 = .ok (.bipush 12, 2) := dk_16 12 (dk_at dksX9_buyLine_0 7 rfl rfl)
theorem dX9_buyLine_9 : decode cX9_buyLine 9 = .ok (.if_icmp .ne 9, 3) := dk_160 0 9 (dk_at dksX9_buyLine_0 9 rfl rfl)
theorem dX9_buyLine_12 : decode cX9_buyLine 12 = .ok (.aload_n 0, 1) := dk_42 (dk_at dksX9_buyLine_0 12 rfl rfl)
theorem dX9_buyLine_13 : decode cX9_buyLine 13 = .ok (.iconst 2, 1) := dk_5 (dk_at dksX9_buyLine_0 13 rfl rfl)
theorem dX9_buyLine_14 : decode cX9_buyLine 14 = .ok (.invokevirtual 121, 3) := dk_182 0 121 (dk_at dksX9_buyLine_0 14 rfl rfl)
theorem dX9_buyLine_17 : decode cX9_buyLine 17 = .ok (.ireturn, 1) := dk_172 (dk_at dksX9_buyLine_0 17 rfl rfl)
theorem dX9_buyLine_18 : decode cX9_buyLine 18 = .ok (.aload_n 0, 1) := dk_42 (dk_at dksX9_buyLine_0 18 rfl rfl)
theorem dX9_buyLine_19 : decode cX9_buyLine 19 = .ok (.aload_n 0, 1) := dk_42 (dk_at dksX9_buyLine_0 19 rfl rfl)
theorem dX9_buyLine_20 : decode cX9_buyLine 20 = .ok (.getfield 26, 3) := dk_180 0 26 (dk_at dksX9_buyLine_0 20 rfl rfl)
theorem dX9_buyLine_23 : decode cX9_buyLine 23 = .ok (.bipush 48, 2) := dk_16 48 (dk_at dksX9_buyLine_1 0 rfl rfl)
theorem dX9_buyLine_25 : decode cX9_buyLine 25 = .ok (.iconst 4, 1) := dk_7 (dk_at dksX9_buyLine_1 2 rfl rfl)
theorem dX9_buyLine_26 : decode cX9_buyLine 26 = .ok (.aload_n 0, 1) := dk_42 (dk_at dksX9_buyLine_1 3 rfl rfl)
theorem dX9_buyLine_27 : decode cX9_buyLine 27 = .ok (.getfield 32, 3) := dk_180 0 32 (dk_at dksX9_buyLine_1 4 rfl rfl)
theorem dX9_buyLine_30 : decode cX9_buyLine 30 = .ok (.bipush 12, 2) := dk_16 12 (dk_at dksX9_buyLine_1 7 rfl rfl)
theorem dX9_buyLine_32 : decode cX9_buyLine 32 = .ok (.iaload, 1) := dk_46 (dk_at dksX9_buyLine_1 9 rfl rfl)
theorem dX9_buyLine_33 : decode cX9_buyLine 33 = .ok (.imul, 1) := dk_104 (dk_at dksX9_buyLine_1 10 rfl rfl)
theorem dX9_buyLine_34 : decode cX9_buyLine 34 = .ok (.iadd, 1) := dk_96 (dk_at dksX9_buyLine_1 11 rfl rfl)
theorem dX9_buyLine_35 : decode cX9_buyLine 35 = .ok (.iconst 4, 1) := dk_7 (dk_at dksX9_buyLine_1 12 rfl rfl)
theorem dX9_buyLine_36 : decode cX9_buyLine 36 = .ok (.iconst 2, 1) := dk_5 (dk_at dksX9_buyLine_1 13 rfl rfl)
theorem dX9_buyLine_37 : decode cX9_buyLine 37 = .ok (.sipush 9999, 3) := dk_17 39 15 (dk_at dksX9_buyLine_1 14 rfl rfl)
theorem dX9_buyLine_40 : decode cX9_buyLine 40 = .ok (.iconst 1, 1) := dk_4 (dk_at dksX9_buyLine_1 17 rfl rfl)
theorem dX9_buyLine_41 : decode cX9_buyLine 41 = .ok (.invokevirtual 146, 3) := dk_182 0 146 (dk_at dksX9_buyLine_1 18 rfl rfl)
theorem dX9_buyLine_44 : decode cX9_buyLine 44 = .ok (.ifCond .ne 5, 3) := dk_154 0 5 (dk_at dksX9_buyLine_1 21 rfl rfl)
theorem dX9_buyLine_47 : decode cX9_buyLine 47 = .ok (.iconst 0, 1) := dk_3 (dk_at dksX9_buyLine_2 0 rfl rfl)
theorem dX9_buyLine_48 : decode cX9_buyLine 48 = .ok (.ireturn, 1) := dk_172 (dk_at dksX9_buyLine_2 1 rfl rfl)
theorem dX9_buyLine_49 : decode cX9_buyLine 49 = .ok (.aload_n 0, 1) := dk_42 (dk_at dksX9_buyLine_2 2 rfl rfl)
theorem dX9_buyLine_50 : decode cX9_buyLine 50 = .ok (.getfield 32, 3) := dk_180 0 32 (dk_at dksX9_buyLine_2 3 rfl rfl)
theorem dX9_buyLine_53 : decode cX9_buyLine 53 = .ok (.bipush 12, 2) := dk_16 12 (dk_at dksX9_buyLine_2 6 rfl rfl)
theorem dX9_buyLine_55 : decode cX9_buyLine 55 = .ok (.dup2, 1) := dk_92 (dk_at dksX9_buyLine_2 8 rfl rfl)
theorem dX9_buyLine_56 : decode cX9_buyLine 56 = .ok (.iaload, 1) := dk_46 (dk_at dksX9_buyLine_2 9 rfl rfl)
theorem dX9_buyLine_57 : decode cX9_buyLine 57 = .ok (.iconst 1, 1) := dk_4 (dk_at dksX9_buyLine_2 10 rfl rfl)
theorem dX9_buyLine_58 : decode cX9_buyLine 58 = .ok (.iadd, 1) := dk_96 (dk_at dksX9_buyLine_2 11 rfl rfl)
theorem dX9_buyLine_59 : decode cX9_buyLine 59 = .ok (.iastore, 1) := dk_79 (dk_at dksX9_buyLine_2 12 rfl rfl)
theorem dX9_buyLine_60 : decode cX9_buyLine 60 = .ok (.iconst 1, 1) := dk_4 (dk_at dksX9_buyLine_2 13 rfl rfl)
theorem dX9_buyLine_61 : decode cX9_buyLine 61 = .ok (.ireturn, 1) := dk_172 (dk_at dksX9_buyLine_2 14 rfl rfl)
abbrev cX9_assetLine : ByteArray := prog_17_method_24_code
def yX9_assetLine : MethodName := ⟨RX9, "assetLine", "()Z"⟩
def dkwX9_assetLine_2 : List UInt8 := [42, 180, 0, 32, 16, 13, 92, 46, 4, 96, 79, 4, 172]
abbrev dktX9_assetLine_2 : List UInt8 := dkwX9_assetLine_2 ++ []
def dkwX9_assetLine_1 : List UInt8 := [8, 42, 180, 0, 32, 16, 13, 46, 104, 96, 8, 5, 17, 39, 15, 4, 182, 0, 146, 154, 0, 5, 3, 172]
abbrev dktX9_assetLine_1 : List UInt8 := dkwX9_assetLine_1 ++ dktX9_assetLine_2
def dkwX9_assetLine_0 : List UInt8 := [42, 180, 0, 32, 16, 13, 46, 7, 160, 0, 9, 42, 5, 182, 0, 121, 172, 42, 42, 180, 0, 29, 16, 20]
abbrev dktX9_assetLine_0 : List UInt8 := dkwX9_assetLine_0 ++ dktX9_assetLine_1
theorem dksX9_assetLine_0 : cX9_assetLine.data.toList.drop 0 = dktX9_assetLine_0 := by decide +kernel
theorem dksX9_assetLine_1 : cX9_assetLine.data.toList.drop 24 = dktX9_assetLine_1 := dk_seg dksX9_assetLine_0 24 rfl rfl
theorem dksX9_assetLine_2 : cX9_assetLine.data.toList.drop 48 = dktX9_assetLine_2 := dk_seg dksX9_assetLine_1 24 rfl rfl
theorem dX9_assetLine_0 : decode cX9_assetLine 0 = .ok (.aload_n 0, 1) := dk_42 (dk_at dksX9_assetLine_0 0 rfl rfl)
theorem dX9_assetLine_1 : decode cX9_assetLine 1 = .ok (.getfield 32, 3) := dk_180 0 32 (dk_at dksX9_assetLine_0 1 rfl rfl)
theorem dX9_assetLine_4 : decode cX9_assetLine 4 = .ok (.bipush 13, 2) := dk_16 13 (dk_at dksX9_assetLine_0 4 rfl rfl)
theorem dX9_assetLine_6 : decode cX9_assetLine 6 = .ok (.iaload, 1) := dk_46 (dk_at dksX9_assetLine_0 6 rfl rfl)
theorem dX9_assetLine_7 : decode cX9_assetLine 7 = .ok (.iconst 4, 1) := dk_7 (dk_at dksX9_assetLine_0 7 rfl rfl)
theorem dX9_assetLine_8 : decode cX9_assetLine 8 = .ok (.if_icmp .ne 9, 3) := dk_160 0 9 (dk_at dksX9_assetLine_0 8 rfl rfl)
theorem dX9_assetLine_11 : decode cX9_assetLine 11 = .ok (.aload_n 0, 1) := dk_42 (dk_at dksX9_assetLine_0 11 rfl rfl)
theorem dX9_assetLine_12 : decode cX9_assetLine 12 = .ok (.iconst 2, 1) := dk_5 (dk_at dksX9_assetLine_0 12 rfl rfl)
theorem dX9_assetLine_13 : decode cX9_assetLine 13 = .ok (.invokevirtual 121, 3) := dk_182 0 121 (dk_at dksX9_assetLine_0 13 rfl rfl)
theorem dX9_assetLine_16 : decode cX9_assetLine 16 = .ok (.ireturn, 1) := dk_172 (dk_at dksX9_assetLine_0 16 rfl rfl)
theorem dX9_assetLine_17 : decode cX9_assetLine 17 = .ok (.aload_n 0, 1) := dk_42 (dk_at dksX9_assetLine_0 17 rfl rfl)
theorem dX9_assetLine_18 : decode cX9_assetLine 18 = .ok (.aload_n 0, 1) := dk_42 (dk_at dksX9_assetLine_0 18 rfl rfl)
theorem dX9_assetLine_19 : decode cX9_assetLine 19 = .ok (.getfield 29, 3) := dk_180 0 29 (dk_at dksX9_assetLine_0 19 rfl rfl)
theorem dX9_assetLine_22 : decode cX9_assetLine 22 = .ok (.bipush 20, 2) := dk_16 20 (dk_at dksX9_assetLine_0 22 rfl rfl)
theorem dX9_assetLine_24 : decode cX9_assetLine 24 = .ok (.iconst 5, 1) := dk_8 (dk_at dksX9_assetLine_1 0 rfl rfl)
theorem dX9_assetLine_25 : decode cX9_assetLine 25 = .ok (.aload_n 0, 1) := dk_42 (dk_at dksX9_assetLine_1 1 rfl rfl)
theorem dX9_assetLine_26 : decode cX9_assetLine 26 = .ok (.getfield 32, 3) := dk_180 0 32 (dk_at dksX9_assetLine_1 2 rfl rfl)
theorem dX9_assetLine_29 : decode cX9_assetLine 29 = .ok (.bipush 13, 2) := dk_16 13 (dk_at dksX9_assetLine_1 5 rfl rfl)
theorem dX9_assetLine_31 : decode cX9_assetLine 31 = .ok (.iaload, 1) := dk_46 (dk_at dksX9_assetLine_1 7 rfl rfl)
theorem dX9_assetLine_32 : decode cX9_assetLine 32 = .ok (.imul, 1) := dk_104 (dk_at dksX9_assetLine_1 8 rfl rfl)
theorem dX9_assetLine_33 : decode cX9_assetLine 33 = .ok (.iadd, 1) := dk_96 (dk_at dksX9_assetLine_1 9 rfl rfl)
theorem dX9_assetLine_34 : decode cX9_assetLine 34 = .ok (.iconst 5, 1) := dk_8 (dk_at dksX9_assetLine_1 10 rfl rfl)
theorem dX9_assetLine_35 : decode cX9_assetLine 35 = .ok (.iconst 2, 1) := dk_5 (dk_at dksX9_assetLine_1 11 rfl rfl)
theorem dX9_assetLine_36 : decode cX9_assetLine 36 = .ok (.sipush 9999, 3) := dk_17 39 15 (dk_at dksX9_assetLine_1 12 rfl rfl)
theorem dX9_assetLine_39 : decode cX9_assetLine 39 = .ok (.iconst 1, 1) := dk_4 (dk_at dksX9_assetLine_1 15 rfl rfl)
theorem dX9_assetLine_40 : decode cX9_assetLine 40 = .ok (.invokevirtual 146, 3) := dk_182 0 146 (dk_at dksX9_assetLine_1 16 rfl rfl)
theorem dX9_assetLine_43 : decode cX9_assetLine 43 = .ok (.ifCond .ne 5, 3) := dk_154 0 5 (dk_at dksX9_assetLine_1 19 rfl rfl)
theorem dX9_assetLine_46 : decode cX9_assetLine 46 = .ok (.iconst 0, 1) := dk_3 (dk_at dksX9_assetLine_1 22 rfl rfl)
theorem dX9_assetLine_47 : decode cX9_assetLine 47 = .ok (.ireturn, 1) := dk_172 (dk_at dksX9_assetLine_1 23 rfl rfl)
theorem dX9_assetLine_48 : decode cX9_assetLine 48 = .ok (.aload_n 0, 1) := dk_42 (dk_at dksX9_assetLine_2 0 rfl rfl)
theorem dX9_assetLine_49 : decode cX9_assetLine 49 = .ok (.getfield 32, 3) := dk_180 0 32 (dk_at dksX9_assetLine_2 1 rfl rfl)
theorem dX9_assetLine_52 : decode cX9_assetLine 52 = .ok (.bipush 13, 2) := dk_16 13 (dk_at dksX9_assetLine_2 4 rfl rfl)
theorem dX9_assetLine_54 : decode cX9_assetLine 54 = .ok (.dup2, 1) := dk_92 (dk_at dksX9_assetLine_2 6 rfl rfl)
theorem dX9_assetLine_55 : decode cX9_assetLine 55 = .ok (.iaload, 1) := dk_46 (dk_at dksX9_assetLine_2 7 rfl rfl)
theorem dX9_assetLine_56 : decode cX9_assetLine 56 = .ok (.iconst 1, 1) := dk_4 (dk_at dksX9_assetLine_2 8 rfl rfl)
theorem dX9_assetLine_57 : decode cX9_assetLine 57 = .ok (.iadd, 1) := dk_96 (dk_at dksX9_assetLine_2 9 rfl rfl)
theorem dX9_assetLine_58 : decode cX9_assetLine 58 = .ok (.iastore, 1) := dk_79 (dk_at dksX9_assetLine_2 10 rfl rfl)
theorem dX9_assetLine_59 : decode cX9_assetLine 59 = .ok (.iconst 1, 1) := dk_4 (dk_at dksX9_assetLine_2 11 rfl rfl)
theorem dX9_assetLine_60 : decode cX9_assetLine 60 = .ok (.ireturn, 1) := dk_172 (dk_at dksX9_assetLine_2 12 rfl rfl)
abbrev cX9_wordLine : ByteArray := prog_17_method_25_code
def yX9_wordLine : MethodName := ⟨RX9, "wordLine", "()Z"⟩
def dkwX9_wordLine_8 : List UInt8 := [79, 4, 172]
abbrev dktX9_wordLine_8 : List UInt8 := dkwX9_wordLine_8 ++ []
def dkwX9_wordLine_7 : List UInt8 := [160, 0, 8, 16, 8, 167, 0, 15, 27, 8, 160, 0, 8, 16, 9, 167, 0, 5, 16, 10, 42, 180, 0, 128]
abbrev dktX9_wordLine_7 : List UInt8 := dkwX9_wordLine_7 ++ dktX9_wordLine_8
def dkwX9_wordLine_6 : List UInt8 := [153, 0, 16, 167, 0, 15, 42, 3, 18, 87, 182, 0, 138, 154, 0, 5, 3, 172, 42, 180, 0, 32, 27, 7]
abbrev dktX9_wordLine_6 : List UInt8 := dkwX9_wordLine_6 ++ dktX9_wordLine_7
def dkwX9_wordLine_5 : List UInt8 := [182, 0, 138, 153, 0, 35, 167, 0, 34, 27, 8, 160, 0, 17, 42, 3, 17, 39, 15, 182, 0, 138]
abbrev dktX9_wordLine_5 : List UInt8 := dkwX9_wordLine_5 ++ dktX9_wordLine_6
def dkwX9_wordLine_4 : List UInt8 := [4, 167, 0, 4, 5, 79, 42, 182, 0, 131, 4, 172, 27, 7, 160, 0, 18, 42, 16, 10, 17, 3, 232]
abbrev dktX9_wordLine_4 : List UInt8 := dkwX9_wordLine_4 ++ dktX9_wordLine_5
def dkwX9_wordLine_3 : List UInt8 := [16, 7, 42, 180, 0, 78, 16, 11, 160, 0, 7, 3, 167, 0, 17, 42, 180, 0, 78, 16, 10, 160, 0, 7]
abbrev dktX9_wordLine_3 : List UInt8 := dkwX9_wordLine_3 ++ dktX9_wordLine_4
def dkwX9_wordLine_2 : List UInt8 := [4, 160, 0, 12, 42, 180, 0, 78, 16, 10, 162, 0, 9, 42, 4, 182, 0, 121, 172, 42, 180, 0, 32]
abbrev dktX9_wordLine_2 : List UInt8 := dkwX9_wordLine_2 ++ dktX9_wordLine_3
def dkwX9_wordLine_1 : List UInt8 := [89, 180, 0, 91, 4, 27, 120, 128, 181, 0, 91, 42, 182, 0, 131, 27, 6, 160, 0, 66, 42, 180, 0, 67]
abbrev dktX9_wordLine_1 : List UInt8 := dkwX9_wordLine_1 ++ dktX9_wordLine_2
def dkwX9_wordLine_0 : List UInt8 := [42, 180, 0, 78, 60, 42, 180, 0, 91, 27, 122, 4, 126, 4, 160, 0, 9, 42, 6, 182, 0, 121, 172, 42]
abbrev dktX9_wordLine_0 : List UInt8 := dkwX9_wordLine_0 ++ dktX9_wordLine_1
theorem dksX9_wordLine_0 : cX9_wordLine.data.toList.drop 0 = dktX9_wordLine_0 := by decide +kernel
theorem dksX9_wordLine_1 : cX9_wordLine.data.toList.drop 24 = dktX9_wordLine_1 := dk_seg dksX9_wordLine_0 24 rfl rfl
theorem dksX9_wordLine_2 : cX9_wordLine.data.toList.drop 48 = dktX9_wordLine_2 := dk_seg dksX9_wordLine_1 24 rfl rfl
theorem dksX9_wordLine_3 : cX9_wordLine.data.toList.drop 71 = dktX9_wordLine_3 := dk_seg dksX9_wordLine_2 23 rfl rfl
theorem dksX9_wordLine_4 : cX9_wordLine.data.toList.drop 95 = dktX9_wordLine_4 := dk_seg dksX9_wordLine_3 24 rfl rfl
theorem dksX9_wordLine_5 : cX9_wordLine.data.toList.drop 118 = dktX9_wordLine_5 := dk_seg dksX9_wordLine_4 23 rfl rfl
theorem dksX9_wordLine_6 : cX9_wordLine.data.toList.drop 140 = dktX9_wordLine_6 := dk_seg dksX9_wordLine_5 22 rfl rfl
theorem dksX9_wordLine_7 : cX9_wordLine.data.toList.drop 164 = dktX9_wordLine_7 := dk_seg dksX9_wordLine_6 24 rfl rfl
theorem dksX9_wordLine_8 : cX9_wordLine.data.toList.drop 188 = dktX9_wordLine_8 := dk_seg dksX9_wordLine_7 24 rfl rfl
theorem dX9_wordLine_0 : decode cX9_wordLine 0 = .ok (.aload_n 0, 1) := dk_42 (dk_at dksX9_wordLine_0 0 rfl rfl)
theorem dX9_wordLine_1 : decode cX9_wordLine 1 = .ok (.getfield 78, 3) := dk_180 0 78 (dk_at dksX9_wordLine_0 1 rfl rfl)
theorem dX9_wordLine_4 : decode cX9_wordLine 4 = .ok (.istore_n 1, 1) := dk_60 (dk_at dksX9_wordLine_0 4 rfl rfl)
theorem dX9_wordLine_5 : decode cX9_wordLine 5 = .ok (.aload_n 0, 1) := dk_42 (dk_at dksX9_wordLine_0 5 rfl rfl)
theorem dX9_wordLine_6 : decode cX9_wordLine 6 = .ok (.getfield 91, 3) := dk_180 0 91 (dk_at dksX9_wordLine_0 6 rfl rfl)
theorem dX9_wordLine_9 : decode cX9_wordLine 9 = .ok (.iload_n 1, 1) := dk_27 (dk_at dksX9_wordLine_0 9 rfl rfl)
theorem dX9_wordLine_10 : decode cX9_wordLine 10 = .ok (.ishr, 1) := dk_122 (dk_at dksX9_wordLine_0 10 rfl rfl)
theorem dX9_wordLine_11 : decode cX9_wordLine 11 = .ok (.iconst 1, 1) := dk_4 (dk_at dksX9_wordLine_0 11 rfl rfl)
theorem dX9_wordLine_12 : decode cX9_wordLine 12 = .ok (.iand, 1) := dk_126 (dk_at dksX9_wordLine_0 12 rfl rfl)
theorem dX9_wordLine_13 : decode cX9_wordLine 13 = .ok (.iconst 1, 1) := dk_4 (dk_at dksX9_wordLine_0 13 rfl rfl)
theorem dX9_wordLine_14 : decode cX9_wordLine 14 = .ok (.if_icmp .ne 9, 3) := dk_160 0 9 (dk_at dksX9_wordLine_0 14 rfl rfl)
theorem dX9_wordLine_17 : decode cX9_wordLine 17 = .ok (.aload_n 0, 1) := dk_42 (dk_at dksX9_wordLine_0 17 rfl rfl)
theorem dX9_wordLine_18 : decode cX9_wordLine 18 = .ok (.iconst 3, 1) := dk_6 (dk_at dksX9_wordLine_0 18 rfl rfl)
theorem dX9_wordLine_19 : decode cX9_wordLine 19 = .ok (.invokevirtual 121, 3) := dk_182 0 121 (dk_at dksX9_wordLine_0 19 rfl rfl)
theorem dX9_wordLine_22 : decode cX9_wordLine 22 = .ok (.ireturn, 1) := dk_172 (dk_at dksX9_wordLine_0 22 rfl rfl)
theorem dX9_wordLine_23 : decode cX9_wordLine 23 = .ok (.aload_n 0, 1) := dk_42 (dk_at dksX9_wordLine_0 23 rfl rfl)
theorem dX9_wordLine_24 : decode cX9_wordLine 24 = .ok (.dup, 1) := dk_89 (dk_at dksX9_wordLine_1 0 rfl rfl)
theorem dX9_wordLine_25 : decode cX9_wordLine 25 = .ok (.getfield 91, 3) := dk_180 0 91 (dk_at dksX9_wordLine_1 1 rfl rfl)
theorem dX9_wordLine_28 : decode cX9_wordLine 28 = .ok (.iconst 1, 1) := dk_4 (dk_at dksX9_wordLine_1 4 rfl rfl)
theorem dX9_wordLine_29 : decode cX9_wordLine 29 = .ok (.iload_n 1, 1) := dk_27 (dk_at dksX9_wordLine_1 5 rfl rfl)
theorem dX9_wordLine_30 : decode cX9_wordLine 30 = .ok (.ishl, 1) := dk_120 (dk_at dksX9_wordLine_1 6 rfl rfl)
theorem dX9_wordLine_31 : decode cX9_wordLine 31 = .ok (.ior, 1) := dk_128 (dk_at dksX9_wordLine_1 7 rfl rfl)
theorem dX9_wordLine_32 : decode cX9_wordLine 32 = .ok (.putfield 91, 3) := dk_181 0 91 (dk_at dksX9_wordLine_1 8 rfl rfl)
theorem dX9_wordLine_35 : decode cX9_wordLine 35 = .ok (.aload_n 0, 1) := dk_42 (dk_at dksX9_wordLine_1 11 rfl rfl)
theorem dX9_wordLine_36 : decode cX9_wordLine 36 = .ok (.invokevirtual 131, 3) := dk_182 0 131 (dk_at dksX9_wordLine_1 12 rfl rfl)
theorem dX9_wordLine_39 : decode cX9_wordLine 39 = .ok (.iload_n 1, 1) := dk_27 (dk_at dksX9_wordLine_1 15 rfl rfl)
theorem dX9_wordLine_40 : decode cX9_wordLine 40 = .ok (.iconst 3, 1) := dk_6 (dk_at dksX9_wordLine_1 16 rfl rfl)
theorem dX9_wordLine_41 : decode cX9_wordLine 41 = .ok (.if_icmp .ne 66, 3) := dk_160 0 66 (dk_at dksX9_wordLine_1 17 rfl rfl)
theorem dX9_wordLine_44 : decode cX9_wordLine 44 = .ok (.aload_n 0, 1) := dk_42 (dk_at dksX9_wordLine_1 20 rfl rfl)
theorem dX9_wordLine_45 : decode cX9_wordLine 45 = .ok (.getfield 67, 3) := dk_180 0 67 (dk_at dksX9_wordLine_1 21 rfl rfl)
theorem dX9_wordLine_48 : decode cX9_wordLine 48 = .ok (.iconst 1, 1) := dk_4 (dk_at dksX9_wordLine_2 0 rfl rfl)
theorem dX9_wordLine_49 : decode cX9_wordLine 49 = .ok (.if_icmp .ne 12, 3) := dk_160 0 12 (dk_at dksX9_wordLine_2 1 rfl rfl)
theorem dX9_wordLine_52 : decode cX9_wordLine 52 = .ok (.aload_n 0, 1) := dk_42 (dk_at dksX9_wordLine_2 4 rfl rfl)
theorem dX9_wordLine_53 : decode cX9_wordLine 53 = .ok (.getfield 78, 3) := dk_180 0 78 (dk_at dksX9_wordLine_2 5 rfl rfl)
theorem dX9_wordLine_56 : decode cX9_wordLine 56 = .ok (.bipush 10, 2) := dk_16 10 (dk_at dksX9_wordLine_2 8 rfl rfl)
theorem dX9_wordLine_58 : decode cX9_wordLine 58 = .ok (.if_icmp .ge 9, 3) := dk_162 0 9 (dk_at dksX9_wordLine_2 10 rfl rfl)
theorem dX9_wordLine_61 : decode cX9_wordLine 61 = .ok (.aload_n 0, 1) := dk_42 (dk_at dksX9_wordLine_2 13 rfl rfl)
theorem dX9_wordLine_62 : decode cX9_wordLine 62 = .ok (.iconst 1, 1) := dk_4 (dk_at dksX9_wordLine_2 14 rfl rfl)
theorem dX9_wordLine_63 : decode cX9_wordLine 63 = .ok (.invokevirtual 121, 3) := dk_182 0 121 (dk_at dksX9_wordLine_2 15 rfl rfl)
theorem dX9_wordLine_66 : decode cX9_wordLine 66 = .ok (.ireturn, 1) := dk_172 (dk_at dksX9_wordLine_2 18 rfl rfl)
theorem dX9_wordLine_67 : decode cX9_wordLine 67 = .ok (.aload_n 0, 1) := dk_42 (dk_at dksX9_wordLine_2 19 rfl rfl)
theorem dX9_wordLine_68 : decode cX9_wordLine 68 = .ok (.getfield 32, 3) := dk_180 0 32 (dk_at dksX9_wordLine_2 20 rfl rfl)
theorem dX9_wordLine_71 : decode cX9_wordLine 71 = .ok (.bipush 7, 2) := dk_16 7 (dk_at dksX9_wordLine_3 0 rfl rfl)
theorem dX9_wordLine_73 : decode cX9_wordLine 73 = .ok (.aload_n 0, 1) := dk_42 (dk_at dksX9_wordLine_3 2 rfl rfl)
theorem dX9_wordLine_74 : decode cX9_wordLine 74 = .ok (.getfield 78, 3) := dk_180 0 78 (dk_at dksX9_wordLine_3 3 rfl rfl)
theorem dX9_wordLine_77 : decode cX9_wordLine 77 = .ok (.bipush 11, 2) := dk_16 11 (dk_at dksX9_wordLine_3 6 rfl rfl)
theorem dX9_wordLine_79 : decode cX9_wordLine 79 = .ok (.if_icmp .ne 7, 3) := dk_160 0 7 (dk_at dksX9_wordLine_3 8 rfl rfl)
theorem dX9_wordLine_82 : decode cX9_wordLine 82 = .ok (.iconst 0, 1) := dk_3 (dk_at dksX9_wordLine_3 11 rfl rfl)
theorem dX9_wordLine_83 : decode cX9_wordLine 83 = .ok (.goto 17, 3) := dk_167 0 17 (dk_at dksX9_wordLine_3 12 rfl rfl)
theorem dX9_wordLine_86 : decode cX9_wordLine 86 = .ok (.aload_n 0, 1) := dk_42 (dk_at dksX9_wordLine_3 15 rfl rfl)
theorem dX9_wordLine_87 : decode cX9_wordLine 87 = .ok (.getfield 78, 3) := dk_180 0 78 (dk_at dksX9_wordLine_3 16 rfl rfl)
theorem dX9_wordLine_90 : decode cX9_wordLine 90 = .ok (.bipush 10, 2) := dk_16 10 (dk_at dksX9_wordLine_3 19 rfl rfl)
theorem dX9_wordLine_92 : decode cX9_wordLine 92 = .ok (.if_icmp .ne 7, 3) := dk_160 0 7 (dk_at dksX9_wordLine_3 21 rfl rfl)
theorem dX9_wordLine_95 : decode cX9_wordLine 95 = .ok (.iconst 1, 1) := dk_4 (dk_at dksX9_wordLine_4 0 rfl rfl)
theorem dX9_wordLine_96 : decode cX9_wordLine 96 = .ok (.goto 4, 3) := dk_167 0 4 (dk_at dksX9_wordLine_4 1 rfl rfl)
theorem dX9_wordLine_99 : decode cX9_wordLine 99 = .ok (.iconst 2, 1) := dk_5 (dk_at dksX9_wordLine_4 4 rfl rfl)
theorem dX9_wordLine_100 : decode cX9_wordLine 100 = .ok (.iastore, 1) := dk_79 (dk_at dksX9_wordLine_4 5 rfl rfl)
theorem dX9_wordLine_101 : decode cX9_wordLine 101 = .ok (.aload_n 0, 1) := dk_42 (dk_at dksX9_wordLine_4 6 rfl rfl)
theorem dX9_wordLine_102 : decode cX9_wordLine 102 = .ok (.invokevirtual 131, 3) := dk_182 0 131 (dk_at dksX9_wordLine_4 7 rfl rfl)
theorem dX9_wordLine_105 : decode cX9_wordLine 105 = .ok (.iconst 1, 1) := dk_4 (dk_at dksX9_wordLine_4 10 rfl rfl)
theorem dX9_wordLine_106 : decode cX9_wordLine 106 = .ok (.ireturn, 1) := dk_172 (dk_at dksX9_wordLine_4 11 rfl rfl)
theorem dX9_wordLine_107 : decode cX9_wordLine 107 = .ok (.iload_n 1, 1) := dk_27 (dk_at dksX9_wordLine_4 12 rfl rfl)
theorem dX9_wordLine_108 : decode cX9_wordLine 108 = .ok (.iconst 4, 1) := dk_7 (dk_at dksX9_wordLine_4 13 rfl rfl)
theorem dX9_wordLine_109 : decode cX9_wordLine 109 = .ok (.if_icmp .ne 18, 3) := dk_160 0 18 (dk_at dksX9_wordLine_4 14 rfl rfl)
theorem dX9_wordLine_112 : decode cX9_wordLine 112 = .ok (.aload_n 0, 1) := dk_42 (dk_at dksX9_wordLine_4 17 rfl rfl)
theorem dX9_wordLine_113 : decode cX9_wordLine 113 = .ok (.bipush 10, 2) := dk_16 10 (dk_at dksX9_wordLine_4 18 rfl rfl)
theorem dX9_wordLine_115 : decode cX9_wordLine 115 = .ok (.sipush 1000, 3) := dk_17 3 232 (dk_at dksX9_wordLine_4 20 rfl rfl)
theorem dX9_wordLine_118 : decode cX9_wordLine 118 = .ok (.invokevirtual 138, 3) := dk_182 0 138 (dk_at dksX9_wordLine_5 0 rfl rfl)
theorem dX9_wordLine_121 : decode cX9_wordLine 121 = .ok (.ifCond .eq 35, 3) := dk_153 0 35 (dk_at dksX9_wordLine_5 3 rfl rfl)
theorem dX9_wordLine_124 : decode cX9_wordLine 124 = .ok (.goto 34, 3) := dk_167 0 34 (dk_at dksX9_wordLine_5 6 rfl rfl)
theorem dX9_wordLine_127 : decode cX9_wordLine 127 = .ok (.iload_n 1, 1) := dk_27 (dk_at dksX9_wordLine_5 9 rfl rfl)
theorem dX9_wordLine_128 : decode cX9_wordLine 128 = .ok (.iconst 5, 1) := dk_8 (dk_at dksX9_wordLine_5 10 rfl rfl)
theorem dX9_wordLine_129 : decode cX9_wordLine 129 = .ok (.if_icmp .ne 17, 3) := dk_160 0 17 (dk_at dksX9_wordLine_5 11 rfl rfl)
theorem dX9_wordLine_132 : decode cX9_wordLine 132 = .ok (.aload_n 0, 1) := dk_42 (dk_at dksX9_wordLine_5 14 rfl rfl)
theorem dX9_wordLine_133 : decode cX9_wordLine 133 = .ok (.iconst 0, 1) := dk_3 (dk_at dksX9_wordLine_5 15 rfl rfl)
theorem dX9_wordLine_134 : decode cX9_wordLine 134 = .ok (.sipush 9999, 3) := dk_17 39 15 (dk_at dksX9_wordLine_5 16 rfl rfl)
theorem dX9_wordLine_137 : decode cX9_wordLine 137 = .ok (.invokevirtual 138, 3) := dk_182 0 138 (dk_at dksX9_wordLine_5 19 rfl rfl)
theorem dX9_wordLine_140 : decode cX9_wordLine 140 = .ok (.ifCond .eq 16, 3) := dk_153 0 16 (dk_at dksX9_wordLine_6 0 rfl rfl)
theorem dX9_wordLine_143 : decode cX9_wordLine 143 = .ok (.goto 15, 3) := dk_167 0 15 (dk_at dksX9_wordLine_6 3 rfl rfl)
theorem dX9_wordLine_146 : decode cX9_wordLine 146 = .ok (.aload_n 0, 1) := dk_42 (dk_at dksX9_wordLine_6 6 rfl rfl)
theorem dX9_wordLine_147 : decode cX9_wordLine 147 = .ok (.iconst 0, 1) := dk_3 (dk_at dksX9_wordLine_6 7 rfl rfl)
theorem dX9_wordLine_148 : decode cX9_wordLine 148 = .ok (.ldc 87, 2) := dk_18 87 (dk_at dksX9_wordLine_6 8 rfl rfl)
theorem dX9_wordLine_150 : decode cX9_wordLine 150 = .ok (.invokevirtual 138, 3) := dk_182 0 138 (dk_at dksX9_wordLine_6 10 rfl rfl)
theorem dX9_wordLine_153 : decode cX9_wordLine 153 = .ok (.ifCond .ne 5, 3) := dk_154 0 5 (dk_at dksX9_wordLine_6 13 rfl rfl)
theorem dX9_wordLine_156 : decode cX9_wordLine 156 = .ok (.iconst 0, 1) := dk_3 (dk_at dksX9_wordLine_6 16 rfl rfl)
theorem dX9_wordLine_157 : decode cX9_wordLine 157 = .ok (.ireturn, 1) := dk_172 (dk_at dksX9_wordLine_6 17 rfl rfl)
theorem dX9_wordLine_158 : decode cX9_wordLine 158 = .ok (.aload_n 0, 1) := dk_42 (dk_at dksX9_wordLine_6 18 rfl rfl)
theorem dX9_wordLine_159 : decode cX9_wordLine 159 = .ok (.getfield 32, 3) := dk_180 0 32 (dk_at dksX9_wordLine_6 19 rfl rfl)
theorem dX9_wordLine_162 : decode cX9_wordLine 162 = .ok (.iload_n 1, 1) := dk_27 (dk_at dksX9_wordLine_6 22 rfl rfl)
theorem dX9_wordLine_163 : decode cX9_wordLine 163 = .ok (.iconst 4, 1) := dk_7 (dk_at dksX9_wordLine_6 23 rfl rfl)
theorem dX9_wordLine_164 : decode cX9_wordLine 164 = .ok (.if_icmp .ne 8, 3) := dk_160 0 8 (dk_at dksX9_wordLine_7 0 rfl rfl)
theorem dX9_wordLine_167 : decode cX9_wordLine 167 = .ok (.bipush 8, 2) := dk_16 8 (dk_at dksX9_wordLine_7 3 rfl rfl)
theorem dX9_wordLine_169 : decode cX9_wordLine 169 = .ok (.goto 15, 3) := dk_167 0 15 (dk_at dksX9_wordLine_7 5 rfl rfl)
theorem dX9_wordLine_172 : decode cX9_wordLine 172 = .ok (.iload_n 1, 1) := dk_27 (dk_at dksX9_wordLine_7 8 rfl rfl)
theorem dX9_wordLine_173 : decode cX9_wordLine 173 = .ok (.iconst 5, 1) := dk_8 (dk_at dksX9_wordLine_7 9 rfl rfl)
theorem dX9_wordLine_174 : decode cX9_wordLine 174 = .ok (.if_icmp .ne 8, 3) := dk_160 0 8 (dk_at dksX9_wordLine_7 10 rfl rfl)
theorem dX9_wordLine_177 : decode cX9_wordLine 177 = .ok (.bipush 9, 2) := dk_16 9 (dk_at dksX9_wordLine_7 13 rfl rfl)
theorem dX9_wordLine_179 : decode cX9_wordLine 179 = .ok (.goto 5, 3) := dk_167 0 5 (dk_at dksX9_wordLine_7 15 rfl rfl)
theorem dX9_wordLine_182 : decode cX9_wordLine 182 = .ok (.bipush 10, 2) := dk_16 10 (dk_at dksX9_wordLine_7 18 rfl rfl)
theorem dX9_wordLine_184 : decode cX9_wordLine 184 = .ok (.aload_n 0, 1) := dk_42 (dk_at dksX9_wordLine_7 20 rfl rfl)
theorem dX9_wordLine_185 : decode cX9_wordLine 185 = .ok (.getfield 128, 3) := dk_180 0 128 (dk_at dksX9_wordLine_7 21 rfl rfl)
theorem dX9_wordLine_188 : decode cX9_wordLine 188 = .ok (.iastore, 1) := dk_79 (dk_at dksX9_wordLine_8 0 rfl rfl)
theorem dX9_wordLine_189 : decode cX9_wordLine 189 = .ok (.iconst 1, 1) := dk_4 (dk_at dksX9_wordLine_8 1 rfl rfl)
theorem dX9_wordLine_190 : decode cX9_wordLine 190 = .ok (.ireturn, 1) := dk_172 (dk_at dksX9_wordLine_8 2 rfl rfl)
abbrev cX9_fault : ByteArray := prog_17_method_28_code
def yX9_fault : MethodName := ⟨RX9, "fault", "(I)I"⟩
def dkwX9_fault_1 : List UInt8 := [180, 0, 16, 167, 0, 4, 2, 172]
abbrev dktX9_fault_1 : List UInt8 := dkwX9_fault_1 ++ []
def dkwX9_fault_0 : List UInt8 := [42, 3, 181, 0, 49, 27, 154, 0, 10, 42, 180, 0, 55, 167, 0, 16, 27, 4, 160, 0, 10, 42]
abbrev dktX9_fault_0 : List UInt8 := dkwX9_fault_0 ++ dktX9_fault_1
theorem dksX9_fault_0 : cX9_fault.data.toList.drop 0 = dktX9_fault_0 := by decide +kernel
theorem dksX9_fault_1 : cX9_fault.data.toList.drop 22 = dktX9_fault_1 := dk_seg dksX9_fault_0 22 rfl rfl
theorem dX9_fault_0 : decode cX9_fault 0 = .ok (.aload_n 0, 1) := dk_42 (dk_at dksX9_fault_0 0 rfl rfl)
theorem dX9_fault_1 : decode cX9_fault 1 = .ok (.iconst 0, 1) := dk_3 (dk_at dksX9_fault_0 1 rfl rfl)
theorem dX9_fault_2 : decode cX9_fault 2 = .ok (.putfield 49, 3) := dk_181 0 49 (dk_at dksX9_fault_0 2 rfl rfl)
theorem dX9_fault_5 : decode cX9_fault 5 = .ok (.iload_n 1, 1) := dk_27 (dk_at dksX9_fault_0 5 rfl rfl)
theorem dX9_fault_6 : decode cX9_fault 6 = .ok (.ifCond .ne 10, 3) := dk_154 0 10 (dk_at dksX9_fault_0 6 rfl rfl)
theorem dX9_fault_9 : decode cX9_fault 9 = .ok (.aload_n 0, 1) := dk_42 (dk_at dksX9_fault_0 9 rfl rfl)
theorem dX9_fault_10 : decode cX9_fault 10 = .ok (.getfield 55, 3) := dk_180 0 55 (dk_at dksX9_fault_0 10 rfl rfl)
theorem dX9_fault_13 : decode cX9_fault 13 = .ok (.goto 16, 3) := dk_167 0 16 (dk_at dksX9_fault_0 13 rfl rfl)
theorem dX9_fault_16 : decode cX9_fault 16 = .ok (.iload_n 1, 1) := dk_27 (dk_at dksX9_fault_0 16 rfl rfl)
theorem dX9_fault_17 : decode cX9_fault 17 = .ok (.iconst 1, 1) := dk_4 (dk_at dksX9_fault_0 17 rfl rfl)
theorem dX9_fault_18 : decode cX9_fault 18 = .ok (.if_icmp .ne 10, 3) := dk_160 0 10 (dk_at dksX9_fault_0 18 rfl rfl)
theorem dX9_fault_21 : decode cX9_fault 21 = .ok (.aload_n 0, 1) := dk_42 (dk_at dksX9_fault_0 21 rfl rfl)
theorem dX9_fault_22 : decode cX9_fault 22 = .ok (.getfield 16, 3) := dk_180 0 16 (dk_at dksX9_fault_1 0 rfl rfl)
theorem dX9_fault_25 : decode cX9_fault 25 = .ok (.goto 4, 3) := dk_167 0 4 (dk_at dksX9_fault_1 3 rfl rfl)
theorem dX9_fault_28 : decode cX9_fault 28 = .ok (.iconst (-1), 1) := dk_2 (dk_at dksX9_fault_1 6 rfl rfl)
theorem dX9_fault_29 : decode cX9_fault 29 = .ok (.ireturn, 1) := dk_172 (dk_at dksX9_fault_1 7 rfl rfl)
abbrev cX9_named : ByteArray := prog_17_method_29_code
def yX9_named : MethodName := ⟨RX9, "named", "(I)I"⟩
def dkwX9_named_0 : List UInt8 := [42, 3, 181, 0, 49, 42, 27, 3, 42, 180, 0, 94, 182, 0, 134, 172]
abbrev dktX9_named_0 : List UInt8 := dkwX9_named_0 ++ []
theorem dksX9_named_0 : cX9_named.data.toList.drop 0 = dktX9_named_0 := by decide +kernel
theorem dX9_named_0 : decode cX9_named 0 = .ok (.aload_n 0, 1) := dk_42 (dk_at dksX9_named_0 0 rfl rfl)
theorem dX9_named_1 : decode cX9_named 1 = .ok (.iconst 0, 1) := dk_3 (dk_at dksX9_named_0 1 rfl rfl)
theorem dX9_named_2 : decode cX9_named 2 = .ok (.putfield 49, 3) := dk_181 0 49 (dk_at dksX9_named_0 2 rfl rfl)
theorem dX9_named_5 : decode cX9_named 5 = .ok (.aload_n 0, 1) := dk_42 (dk_at dksX9_named_0 5 rfl rfl)
theorem dX9_named_6 : decode cX9_named 6 = .ok (.iload_n 1, 1) := dk_27 (dk_at dksX9_named_0 6 rfl rfl)
theorem dX9_named_7 : decode cX9_named 7 = .ok (.iconst 0, 1) := dk_3 (dk_at dksX9_named_0 7 rfl rfl)
theorem dX9_named_8 : decode cX9_named 8 = .ok (.aload_n 0, 1) := dk_42 (dk_at dksX9_named_0 8 rfl rfl)
theorem dX9_named_9 : decode cX9_named 9 = .ok (.getfield 94, 3) := dk_180 0 94 (dk_at dksX9_named_0 9 rfl rfl)
theorem dX9_named_12 : decode cX9_named 12 = .ok (.invokevirtual 134, 3) := dk_182 0 134 (dk_at dksX9_named_0 12 rfl rfl)
theorem dX9_named_15 : decode cX9_named 15 = .ok (.ireturn, 1) := dk_172 (dk_at dksX9_named_0 15 rfl rfl)
abbrev cX9_undo : ByteArray := prog_17_method_38_code
def yX9_undo : MethodName := ⟨RX9, "undo", "()I"⟩
def dkwX9_undo_1 : List UInt8 := [42, 6, 42, 180, 0, 104, 96, 3, 182, 0, 178, 42, 180, 0, 104, 172]
abbrev dktX9_undo_1 : List UInt8 := dkwX9_undo_1 ++ []
def dkwX9_undo_0 : List UInt8 := [42, 3, 181, 0, 49, 42, 180, 0, 104, 154, 0, 5, 2, 172, 42, 89, 180, 0, 104, 4, 100, 181, 0, 104]
abbrev dktX9_undo_0 : List UInt8 := dkwX9_undo_0 ++ dktX9_undo_1
theorem dksX9_undo_0 : cX9_undo.data.toList.drop 0 = dktX9_undo_0 := by decide +kernel
theorem dksX9_undo_1 : cX9_undo.data.toList.drop 24 = dktX9_undo_1 := dk_seg dksX9_undo_0 24 rfl rfl
theorem dX9_undo_0 : decode cX9_undo 0 = .ok (.aload_n 0, 1) := dk_42 (dk_at dksX9_undo_0 0 rfl rfl)
theorem dX9_undo_1 : decode cX9_undo 1 = .ok (.iconst 0, 1) := dk_3 (dk_at dksX9_undo_0 1 rfl rfl)
theorem dX9_undo_2 : decode cX9_undo 2 = .ok (.putfield 49, 3) := dk_181 0 49 (dk_at dksX9_undo_0 2 rfl rfl)
theorem dX9_undo_5 : decode cX9_undo 5 = .ok (.aload_n 0, 1) := dk_42 (dk_at dksX9_undo_0 5 rfl rfl)
theorem dX9_undo_6 : decode cX9_undo 6 = .ok (.getfield 104, 3) := dk_180 0 104 (dk_at dksX9_undo_0 6 rfl rfl)
theorem dX9_undo_9 : decode cX9_undo 9 = .ok (.ifCond .ne 5, 3) := dk_154 0 5 (dk_at dksX9_undo_0 9 rfl rfl)
theorem dX9_undo_12 : decode cX9_undo 12 = .ok (.iconst (-1), 1) := dk_2 (dk_at dksX9_undo_0 12 rfl rfl)
theorem dX9_undo_13 : decode cX9_undo 13 = .ok (.ireturn, 1) := dk_172 (dk_at dksX9_undo_0 13 rfl rfl)
theorem dX9_undo_14 : decode cX9_undo 14 = .ok (.aload_n 0, 1) := dk_42 (dk_at dksX9_undo_0 14 rfl rfl)
theorem dX9_undo_15 : decode cX9_undo 15 = .ok (.dup, 1) := dk_89 (dk_at dksX9_undo_0 15 rfl rfl)
theorem dX9_undo_16 : decode cX9_undo 16 = .ok (.getfield 104, 3) := dk_180 0 104 (dk_at dksX9_undo_0 16 rfl rfl)
theorem dX9_undo_19 : decode cX9_undo 19 = .ok (.iconst 1, 1) := dk_4 (dk_at dksX9_undo_0 19 rfl rfl)
theorem dX9_undo_20 : decode cX9_undo 20 = .ok (.isub, 1) := dk_100 (dk_at dksX9_undo_0 20 rfl rfl)
theorem dX9_undo_21 : decode cX9_undo 21 = .ok (.putfield 104, 3) := dk_181 0 104 (dk_at dksX9_undo_0 21 rfl rfl)
theorem dX9_undo_24 : decode cX9_undo 24 = .ok (.aload_n 0, 1) := dk_42 (dk_at dksX9_undo_1 0 rfl rfl)
theorem dX9_undo_25 : decode cX9_undo 25 = .ok (.iconst 3, 1) := dk_6 (dk_at dksX9_undo_1 1 rfl rfl)
theorem dX9_undo_26 : decode cX9_undo 26 = .ok (.aload_n 0, 1) := dk_42 (dk_at dksX9_undo_1 2 rfl rfl)
theorem dX9_undo_27 : decode cX9_undo 27 = .ok (.getfield 104, 3) := dk_180 0 104 (dk_at dksX9_undo_1 3 rfl rfl)
theorem dX9_undo_30 : decode cX9_undo 30 = .ok (.iadd, 1) := dk_96 (dk_at dksX9_undo_1 6 rfl rfl)
theorem dX9_undo_31 : decode cX9_undo 31 = .ok (.iconst 0, 1) := dk_3 (dk_at dksX9_undo_1 7 rfl rfl)
theorem dX9_undo_32 : decode cX9_undo 32 = .ok (.invokevirtual 178, 3) := dk_182 0 178 (dk_at dksX9_undo_1 8 rfl rfl)
theorem dX9_undo_35 : decode cX9_undo 35 = .ok (.aload_n 0, 1) := dk_42 (dk_at dksX9_undo_1 11 rfl rfl)
theorem dX9_undo_36 : decode cX9_undo 36 = .ok (.getfield 104, 3) := dk_180 0 104 (dk_at dksX9_undo_1 12 rfl rfl)
theorem dX9_undo_39 : decode cX9_undo 39 = .ok (.ireturn, 1) := dk_172 (dk_at dksX9_undo_1 15 rfl rfl)
abbrev cX9_copyBank : ByteArray := prog_17_method_36_code
def yX9_copyBank : MethodName := ⟨RX9, "copyBank", "(II)V"⟩
def dkwX9_copyBank_1 : List UInt8 := [17, 9, 164, 27, 104, 29, 96, 46, 79, 132, 3, 1, 167, 255, 222, 177]
abbrev dktX9_copyBank_1 : List UInt8 := dkwX9_copyBank_1 ++ []
def dkwX9_copyBank_0 : List UInt8 := [3, 62, 29, 17, 9, 164, 162, 0, 33, 42, 180, 0, 36, 17, 9, 164, 28, 104, 29, 96, 42, 180, 0, 36]
abbrev dktX9_copyBank_0 : List UInt8 := dkwX9_copyBank_0 ++ dktX9_copyBank_1
theorem dksX9_copyBank_0 : cX9_copyBank.data.toList.drop 0 = dktX9_copyBank_0 := by decide +kernel
theorem dksX9_copyBank_1 : cX9_copyBank.data.toList.drop 24 = dktX9_copyBank_1 := dk_seg dksX9_copyBank_0 24 rfl rfl
theorem dX9_copyBank_0 : decode cX9_copyBank 0 = .ok (.iconst 0, 1) := dk_3 (dk_at dksX9_copyBank_0 0 rfl rfl)
theorem dX9_copyBank_1 : decode cX9_copyBank 1 = .ok (.istore_n 3, 1) := dk_62 (dk_at dksX9_copyBank_0 1 rfl rfl)
theorem dX9_copyBank_2 : decode cX9_copyBank 2 = .ok (.iload_n 3, 1) := dk_29 (dk_at dksX9_copyBank_0 2 rfl rfl)
theorem dX9_copyBank_3 : decode cX9_copyBank 3 = .ok (.sipush 2468, 3) := dk_17 9 164 (dk_at dksX9_copyBank_0 3 rfl rfl)
theorem dX9_copyBank_6 : decode cX9_copyBank 6 = .ok (.if_icmp .ge 33, 3) := dk_162 0 33 (dk_at dksX9_copyBank_0 6 rfl rfl)
theorem dX9_copyBank_9 : decode cX9_copyBank 9 = .ok (.aload_n 0, 1) := dk_42 (dk_at dksX9_copyBank_0 9 rfl rfl)
theorem dX9_copyBank_10 : decode cX9_copyBank 10 = .ok (.getfield 36, 3) := dk_180 0 36 (dk_at dksX9_copyBank_0 10 rfl rfl)
theorem dX9_copyBank_13 : decode cX9_copyBank 13 = .ok (.sipush 2468, 3) := dk_17 9 164 (dk_at dksX9_copyBank_0 13 rfl rfl)
theorem dX9_copyBank_16 : decode cX9_copyBank 16 = .ok (.iload_n 2, 1) := dk_28 (dk_at dksX9_copyBank_0 16 rfl rfl)
theorem dX9_copyBank_17 : decode cX9_copyBank 17 = .ok (.imul, 1) := dk_104 (dk_at dksX9_copyBank_0 17 rfl rfl)
theorem dX9_copyBank_18 : decode cX9_copyBank 18 = .ok (.iload_n 3, 1) := dk_29 (dk_at dksX9_copyBank_0 18 rfl rfl)
theorem dX9_copyBank_19 : decode cX9_copyBank 19 = .ok (.iadd, 1) := dk_96 (dk_at dksX9_copyBank_0 19 rfl rfl)
theorem dX9_copyBank_20 : decode cX9_copyBank 20 = .ok (.aload_n 0, 1) := dk_42 (dk_at dksX9_copyBank_0 20 rfl rfl)
theorem dX9_copyBank_21 : decode cX9_copyBank 21 = .ok (.getfield 36, 3) := dk_180 0 36 (dk_at dksX9_copyBank_0 21 rfl rfl)
theorem dX9_copyBank_24 : decode cX9_copyBank 24 = .ok (.sipush 2468, 3) := dk_17 9 164 (dk_at dksX9_copyBank_1 0 rfl rfl)
theorem dX9_copyBank_27 : decode cX9_copyBank 27 = .ok (.iload_n 1, 1) := dk_27 (dk_at dksX9_copyBank_1 3 rfl rfl)
theorem dX9_copyBank_28 : decode cX9_copyBank 28 = .ok (.imul, 1) := dk_104 (dk_at dksX9_copyBank_1 4 rfl rfl)
theorem dX9_copyBank_29 : decode cX9_copyBank 29 = .ok (.iload_n 3, 1) := dk_29 (dk_at dksX9_copyBank_1 5 rfl rfl)
theorem dX9_copyBank_30 : decode cX9_copyBank 30 = .ok (.iadd, 1) := dk_96 (dk_at dksX9_copyBank_1 6 rfl rfl)
theorem dX9_copyBank_31 : decode cX9_copyBank 31 = .ok (.iaload, 1) := dk_46 (dk_at dksX9_copyBank_1 7 rfl rfl)
theorem dX9_copyBank_32 : decode cX9_copyBank 32 = .ok (.iastore, 1) := dk_79 (dk_at dksX9_copyBank_1 8 rfl rfl)
theorem dX9_copyBank_33 : decode cX9_copyBank 33 = .ok (.iinc 3 1, 3) := dk_132 3 1 (dk_at dksX9_copyBank_1 9 rfl rfl)
theorem dX9_copyBank_36 : decode cX9_copyBank 36 = .ok (.goto (-34), 3) := dk_167 255 222 (dk_at dksX9_copyBank_1 12 rfl rfl)
theorem dX9_copyBank_39 : decode cX9_copyBank 39 = .ok (.return_, 1) := dk_177 (dk_at dksX9_copyBank_1 15 rfl rfl)
abbrev cX9_keep : ByteArray := prog_17_method_39_code
def yX9_keep : MethodName := ⟨RX9, "keep", "()I"⟩
def dkwX9_keep_0 : List UInt8 := [42, 3, 181, 0, 49, 42, 3, 5, 182, 0, 178, 42, 4, 181, 0, 107, 42, 3, 182, 0, 174, 172]
abbrev dktX9_keep_0 : List UInt8 := dkwX9_keep_0 ++ []
theorem dksX9_keep_0 : cX9_keep.data.toList.drop 0 = dktX9_keep_0 := by decide +kernel
theorem dX9_keep_0 : decode cX9_keep 0 = .ok (.aload_n 0, 1) := dk_42 (dk_at dksX9_keep_0 0 rfl rfl)
theorem dX9_keep_1 : decode cX9_keep 1 = .ok (.iconst 0, 1) := dk_3 (dk_at dksX9_keep_0 1 rfl rfl)
theorem dX9_keep_2 : decode cX9_keep 2 = .ok (.putfield 49, 3) := dk_181 0 49 (dk_at dksX9_keep_0 2 rfl rfl)
theorem dX9_keep_5 : decode cX9_keep 5 = .ok (.aload_n 0, 1) := dk_42 (dk_at dksX9_keep_0 5 rfl rfl)
theorem dX9_keep_6 : decode cX9_keep 6 = .ok (.iconst 0, 1) := dk_3 (dk_at dksX9_keep_0 6 rfl rfl)
theorem dX9_keep_7 : decode cX9_keep 7 = .ok (.iconst 2, 1) := dk_5 (dk_at dksX9_keep_0 7 rfl rfl)
theorem dX9_keep_8 : decode cX9_keep 8 = .ok (.invokevirtual 178, 3) := dk_182 0 178 (dk_at dksX9_keep_0 8 rfl rfl)
theorem dX9_keep_11 : decode cX9_keep 11 = .ok (.aload_n 0, 1) := dk_42 (dk_at dksX9_keep_0 11 rfl rfl)
theorem dX9_keep_12 : decode cX9_keep 12 = .ok (.iconst 1, 1) := dk_4 (dk_at dksX9_keep_0 12 rfl rfl)
theorem dX9_keep_13 : decode cX9_keep 13 = .ok (.putfield 107, 3) := dk_181 0 107 (dk_at dksX9_keep_0 13 rfl rfl)
theorem dX9_keep_16 : decode cX9_keep 16 = .ok (.aload_n 0, 1) := dk_42 (dk_at dksX9_keep_0 16 rfl rfl)
theorem dX9_keep_17 : decode cX9_keep 17 = .ok (.iconst 0, 1) := dk_3 (dk_at dksX9_keep_0 17 rfl rfl)
theorem dX9_keep_18 : decode cX9_keep 18 = .ok (.invokevirtual 174, 3) := dk_182 0 174 (dk_at dksX9_keep_0 18 rfl rfl)
theorem dX9_keep_21 : decode cX9_keep 21 = .ok (.ireturn, 1) := dk_172 (dk_at dksX9_keep_0 21 rfl rfl)
abbrev cX9_back : ByteArray := prog_17_method_40_code
def yX9_back : MethodName := ⟨RX9, "back", "()I"⟩
def dkwX9_back_1 : List UInt8 := [181, 0, 104, 42, 3, 182, 0, 174, 172]
abbrev dktX9_back_1 : List UInt8 := dkwX9_back_1 ++ []
def dkwX9_back_0 : List UInt8 := [42, 3, 181, 0, 49, 42, 180, 0, 107, 154, 0, 5, 2, 172, 42, 5, 3, 182, 0, 178, 42, 3]
abbrev dktX9_back_0 : List UInt8 := dkwX9_back_0 ++ dktX9_back_1
theorem dksX9_back_0 : cX9_back.data.toList.drop 0 = dktX9_back_0 := by decide +kernel
theorem dksX9_back_1 : cX9_back.data.toList.drop 22 = dktX9_back_1 := dk_seg dksX9_back_0 22 rfl rfl
theorem dX9_back_0 : decode cX9_back 0 = .ok (.aload_n 0, 1) := dk_42 (dk_at dksX9_back_0 0 rfl rfl)
theorem dX9_back_1 : decode cX9_back 1 = .ok (.iconst 0, 1) := dk_3 (dk_at dksX9_back_0 1 rfl rfl)
theorem dX9_back_2 : decode cX9_back 2 = .ok (.putfield 49, 3) := dk_181 0 49 (dk_at dksX9_back_0 2 rfl rfl)
theorem dX9_back_5 : decode cX9_back 5 = .ok (.aload_n 0, 1) := dk_42 (dk_at dksX9_back_0 5 rfl rfl)
theorem dX9_back_6 : decode cX9_back 6 = .ok (.getfield 107, 3) := dk_180 0 107 (dk_at dksX9_back_0 6 rfl rfl)
theorem dX9_back_9 : decode cX9_back 9 = .ok (.ifCond .ne 5, 3) := dk_154 0 5 (dk_at dksX9_back_0 9 rfl rfl)
theorem dX9_back_12 : decode cX9_back 12 = .ok (.iconst (-1), 1) := dk_2 (dk_at dksX9_back_0 12 rfl rfl)
theorem dX9_back_13 : decode cX9_back 13 = .ok (.ireturn, 1) := dk_172 (dk_at dksX9_back_0 13 rfl rfl)
theorem dX9_back_14 : decode cX9_back 14 = .ok (.aload_n 0, 1) := dk_42 (dk_at dksX9_back_0 14 rfl rfl)
theorem dX9_back_15 : decode cX9_back 15 = .ok (.iconst 2, 1) := dk_5 (dk_at dksX9_back_0 15 rfl rfl)
theorem dX9_back_16 : decode cX9_back 16 = .ok (.iconst 0, 1) := dk_3 (dk_at dksX9_back_0 16 rfl rfl)
theorem dX9_back_17 : decode cX9_back 17 = .ok (.invokevirtual 178, 3) := dk_182 0 178 (dk_at dksX9_back_0 17 rfl rfl)
theorem dX9_back_20 : decode cX9_back 20 = .ok (.aload_n 0, 1) := dk_42 (dk_at dksX9_back_0 20 rfl rfl)
theorem dX9_back_21 : decode cX9_back 21 = .ok (.iconst 0, 1) := dk_3 (dk_at dksX9_back_0 21 rfl rfl)
theorem dX9_back_22 : decode cX9_back 22 = .ok (.putfield 104, 3) := dk_181 0 104 (dk_at dksX9_back_1 0 rfl rfl)
theorem dX9_back_25 : decode cX9_back 25 = .ok (.aload_n 0, 1) := dk_42 (dk_at dksX9_back_1 3 rfl rfl)
theorem dX9_back_26 : decode cX9_back 26 = .ok (.iconst 0, 1) := dk_3 (dk_at dksX9_back_1 4 rfl rfl)
theorem dX9_back_27 : decode cX9_back 27 = .ok (.invokevirtual 174, 3) := dk_182 0 174 (dk_at dksX9_back_1 5 rfl rfl)
theorem dX9_back_30 : decode cX9_back 30 = .ok (.ireturn, 1) := dk_172 (dk_at dksX9_back_1 8 rfl rfl)
abbrev cX9_sale : ByteArray := prog_17_method_72_code
def yX9_sale : MethodName := ⟨RX9, "sale", "(III)I"⟩
def dkwX9_sale_2 : List UInt8 := [182, 0, 181, 29, 182, 0, 184, 42, 42, 27, 42, 3, 182, 0, 174, 28, 182, 0, 181, 182, 0, 174, 172]
abbrev dktX9_sale_2 : List UInt8 := dkwX9_sale_2 ++ []
def dkwX9_sale_1 : List UInt8 := [18, 87, 184, 0, 124, 154, 0, 5, 2, 172, 42, 182, 1, 43, 42, 42, 27, 42, 3, 182, 0, 174, 28]
abbrev dktX9_sale_1 : List UInt8 := dkwX9_sale_1 ++ dktX9_sale_2
def dkwX9_sale_0 : List UInt8 := [42, 3, 181, 0, 49, 42, 27, 182, 1, 40, 153, 0, 22, 28, 3, 4, 184, 0, 124, 153, 0, 13, 29, 4]
abbrev dktX9_sale_0 : List UInt8 := dkwX9_sale_0 ++ dktX9_sale_1
theorem dksX9_sale_0 : cX9_sale.data.toList.drop 0 = dktX9_sale_0 := by decide +kernel
theorem dksX9_sale_1 : cX9_sale.data.toList.drop 24 = dktX9_sale_1 := dk_seg dksX9_sale_0 24 rfl rfl
theorem dksX9_sale_2 : cX9_sale.data.toList.drop 47 = dktX9_sale_2 := dk_seg dksX9_sale_1 23 rfl rfl
theorem dX9_sale_0 : decode cX9_sale 0 = .ok (.aload_n 0, 1) := dk_42 (dk_at dksX9_sale_0 0 rfl rfl)
theorem dX9_sale_1 : decode cX9_sale 1 = .ok (.iconst 0, 1) := dk_3 (dk_at dksX9_sale_0 1 rfl rfl)
theorem dX9_sale_2 : decode cX9_sale 2 = .ok (.putfield 49, 3) := dk_181 0 49 (dk_at dksX9_sale_0 2 rfl rfl)
theorem dX9_sale_5 : decode cX9_sale 5 = .ok (.aload_n 0, 1) := dk_42 (dk_at dksX9_sale_0 5 rfl rfl)
theorem dX9_sale_6 : decode cX9_sale 6 = .ok (.iload_n 1, 1) := dk_27 (dk_at dksX9_sale_0 6 rfl rfl)
theorem dX9_sale_7 : decode cX9_sale 7 = .ok (.invokevirtual 296, 3) := dk_182 1 40 (dk_at dksX9_sale_0 7 rfl rfl)
theorem dX9_sale_10 : decode cX9_sale 10 = .ok (.ifCond .eq 22, 3) := dk_153 0 22 (dk_at dksX9_sale_0 10 rfl rfl)
theorem dX9_sale_13 : decode cX9_sale 13 = .ok (.iload_n 2, 1) := dk_28 (dk_at dksX9_sale_0 13 rfl rfl)
theorem dX9_sale_14 : decode cX9_sale 14 = .ok (.iconst 0, 1) := dk_3 (dk_at dksX9_sale_0 14 rfl rfl)
theorem dX9_sale_15 : decode cX9_sale 15 = .ok (.iconst 1, 1) := dk_4 (dk_at dksX9_sale_0 15 rfl rfl)
theorem dX9_sale_16 : decode cX9_sale 16 = .ok (.invokestatic 124, 3) := dk_184 0 124 (dk_at dksX9_sale_0 16 rfl rfl)
theorem dX9_sale_19 : decode cX9_sale 19 = .ok (.ifCond .eq 13, 3) := dk_153 0 13 (dk_at dksX9_sale_0 19 rfl rfl)
theorem dX9_sale_22 : decode cX9_sale 22 = .ok (.iload_n 3, 1) := dk_29 (dk_at dksX9_sale_0 22 rfl rfl)
theorem dX9_sale_23 : decode cX9_sale 23 = .ok (.iconst 1, 1) := dk_4 (dk_at dksX9_sale_0 23 rfl rfl)
theorem dX9_sale_24 : decode cX9_sale 24 = .ok (.ldc 87, 2) := dk_18 87 (dk_at dksX9_sale_1 0 rfl rfl)
theorem dX9_sale_26 : decode cX9_sale 26 = .ok (.invokestatic 124, 3) := dk_184 0 124 (dk_at dksX9_sale_1 2 rfl rfl)
theorem dX9_sale_29 : decode cX9_sale 29 = .ok (.ifCond .ne 5, 3) := dk_154 0 5 (dk_at dksX9_sale_1 5 rfl rfl)
theorem dX9_sale_32 : decode cX9_sale 32 = .ok (.iconst (-1), 1) := dk_2 (dk_at dksX9_sale_1 8 rfl rfl)
theorem dX9_sale_33 : decode cX9_sale 33 = .ok (.ireturn, 1) := dk_172 (dk_at dksX9_sale_1 9 rfl rfl)
theorem dX9_sale_34 : decode cX9_sale 34 = .ok (.aload_n 0, 1) := dk_42 (dk_at dksX9_sale_1 10 rfl rfl)
theorem dX9_sale_35 : decode cX9_sale 35 = .ok (.invokevirtual 299, 3) := dk_182 1 43 (dk_at dksX9_sale_1 11 rfl rfl)
theorem dX9_sale_38 : decode cX9_sale 38 = .ok (.aload_n 0, 1) := dk_42 (dk_at dksX9_sale_1 14 rfl rfl)
theorem dX9_sale_39 : decode cX9_sale 39 = .ok (.aload_n 0, 1) := dk_42 (dk_at dksX9_sale_1 15 rfl rfl)
theorem dX9_sale_40 : decode cX9_sale 40 = .ok (.iload_n 1, 1) := dk_27 (dk_at dksX9_sale_1 16 rfl rfl)
theorem dX9_sale_41 : decode cX9_sale 41 = .ok (.aload_n 0, 1) := dk_42 (dk_at dksX9_sale_1 17 rfl rfl)
theorem dX9_sale_42 : decode cX9_sale 42 = .ok (.iconst 0, 1) := dk_3 (dk_at dksX9_sale_1 18 rfl rfl)
theorem dX9_sale_43 : decode cX9_sale 43 = .ok (.invokevirtual 174, 3) := dk_182 0 174 (dk_at dksX9_sale_1 19 rfl rfl)
theorem dX9_sale_46 : decode cX9_sale 46 = .ok (.iload_n 2, 1) := dk_28 (dk_at dksX9_sale_1 22 rfl rfl)
theorem dX9_sale_47 : decode cX9_sale 47 = .ok (.invokevirtual 181, 3) := dk_182 0 181 (dk_at dksX9_sale_2 0 rfl rfl)
theorem dX9_sale_50 : decode cX9_sale 50 = .ok (.iload_n 3, 1) := dk_29 (dk_at dksX9_sale_2 3 rfl rfl)
theorem dX9_sale_51 : decode cX9_sale 51 = .ok (.invokevirtual 184, 3) := dk_182 0 184 (dk_at dksX9_sale_2 4 rfl rfl)
theorem dX9_sale_54 : decode cX9_sale 54 = .ok (.aload_n 0, 1) := dk_42 (dk_at dksX9_sale_2 7 rfl rfl)
theorem dX9_sale_55 : decode cX9_sale 55 = .ok (.aload_n 0, 1) := dk_42 (dk_at dksX9_sale_2 8 rfl rfl)
theorem dX9_sale_56 : decode cX9_sale 56 = .ok (.iload_n 1, 1) := dk_27 (dk_at dksX9_sale_2 9 rfl rfl)
theorem dX9_sale_57 : decode cX9_sale 57 = .ok (.aload_n 0, 1) := dk_42 (dk_at dksX9_sale_2 10 rfl rfl)
theorem dX9_sale_58 : decode cX9_sale 58 = .ok (.iconst 0, 1) := dk_3 (dk_at dksX9_sale_2 11 rfl rfl)
theorem dX9_sale_59 : decode cX9_sale 59 = .ok (.invokevirtual 174, 3) := dk_182 0 174 (dk_at dksX9_sale_2 12 rfl rfl)
theorem dX9_sale_62 : decode cX9_sale 62 = .ok (.iload_n 2, 1) := dk_28 (dk_at dksX9_sale_2 15 rfl rfl)
theorem dX9_sale_63 : decode cX9_sale 63 = .ok (.invokevirtual 181, 3) := dk_182 0 181 (dk_at dksX9_sale_2 16 rfl rfl)
theorem dX9_sale_66 : decode cX9_sale 66 = .ok (.invokevirtual 174, 3) := dk_182 0 174 (dk_at dksX9_sale_2 19 rfl rfl)
theorem dX9_sale_69 : decode cX9_sale 69 = .ok (.ireturn, 1) := dk_172 (dk_at dksX9_sale_2 22 rfl rfl)
abbrev cX9_isTrader : ByteArray := prog_17_method_30_code
def yX9_isTrader : MethodName := ⟨RX9, "isTrader", "(I)Z"⟩
def dkwX9_isTrader_0 : List UInt8 := [27, 155, 0, 15, 27, 42, 180, 0, 94, 162, 0, 7, 4, 167, 0, 4, 3, 172]
abbrev dktX9_isTrader_0 : List UInt8 := dkwX9_isTrader_0 ++ []
theorem dksX9_isTrader_0 : cX9_isTrader.data.toList.drop 0 = dktX9_isTrader_0 := by decide +kernel
theorem dX9_isTrader_0 : decode cX9_isTrader 0 = .ok (.iload_n 1, 1) := dk_27 (dk_at dksX9_isTrader_0 0 rfl rfl)
theorem dX9_isTrader_1 : decode cX9_isTrader 1 = .ok (.ifCond .lt 15, 3) := dk_155 0 15 (dk_at dksX9_isTrader_0 1 rfl rfl)
theorem dX9_isTrader_4 : decode cX9_isTrader 4 = .ok (.iload_n 1, 1) := dk_27 (dk_at dksX9_isTrader_0 4 rfl rfl)
theorem dX9_isTrader_5 : decode cX9_isTrader 5 = .ok (.aload_n 0, 1) := dk_42 (dk_at dksX9_isTrader_0 5 rfl rfl)
theorem dX9_isTrader_6 : decode cX9_isTrader 6 = .ok (.getfield 94, 3) := dk_180 0 94 (dk_at dksX9_isTrader_0 6 rfl rfl)
theorem dX9_isTrader_9 : decode cX9_isTrader 9 = .ok (.if_icmp .ge 7, 3) := dk_162 0 7 (dk_at dksX9_isTrader_0 9 rfl rfl)
theorem dX9_isTrader_12 : decode cX9_isTrader 12 = .ok (.iconst 1, 1) := dk_4 (dk_at dksX9_isTrader_0 12 rfl rfl)
theorem dX9_isTrader_13 : decode cX9_isTrader 13 = .ok (.goto 4, 3) := dk_167 0 4 (dk_at dksX9_isTrader_0 13 rfl rfl)
theorem dX9_isTrader_16 : decode cX9_isTrader 16 = .ok (.iconst 0, 1) := dk_3 (dk_at dksX9_isTrader_0 16 rfl rfl)
theorem dX9_isTrader_17 : decode cX9_isTrader 17 = .ok (.ireturn, 1) := dk_172 (dk_at dksX9_isTrader_0 17 rfl rfl)
abbrev cX9_canUndo : ByteArray := prog_17_method_37_code
def yX9_canUndo : MethodName := ⟨RX9, "canUndo", "()V"⟩
def dkwX9_canUndo_2 : List UInt8 := [182, 0, 178, 42, 89, 180, 0, 104, 4, 96, 181, 0, 104, 177]
abbrev dktX9_canUndo_2 : List UInt8 := dkwX9_canUndo_2 ++ []
def dkwX9_canUndo_1 : List UInt8 := [182, 0, 178, 132, 1, 1, 167, 255, 237, 42, 16, 19, 181, 0, 104, 42, 3, 6, 42, 180, 0, 104, 96]
abbrev dktX9_canUndo_1 : List UInt8 := dkwX9_canUndo_1 ++ dktX9_canUndo_2
def dkwX9_canUndo_0 : List UInt8 := [42, 180, 0, 104, 16, 20, 160, 0, 33, 4, 60, 27, 16, 20, 162, 0, 19, 42, 6, 27, 96, 5, 27, 96]
abbrev dktX9_canUndo_0 : List UInt8 := dkwX9_canUndo_0 ++ dktX9_canUndo_1
theorem dksX9_canUndo_0 : cX9_canUndo.data.toList.drop 0 = dktX9_canUndo_0 := by decide +kernel
theorem dksX9_canUndo_1 : cX9_canUndo.data.toList.drop 24 = dktX9_canUndo_1 := dk_seg dksX9_canUndo_0 24 rfl rfl
theorem dksX9_canUndo_2 : cX9_canUndo.data.toList.drop 47 = dktX9_canUndo_2 := dk_seg dksX9_canUndo_1 23 rfl rfl
theorem dX9_canUndo_0 : decode cX9_canUndo 0 = .ok (.aload_n 0, 1) := dk_42 (dk_at dksX9_canUndo_0 0 rfl rfl)
theorem dX9_canUndo_1 : decode cX9_canUndo 1 = .ok (.getfield 104, 3) := dk_180 0 104 (dk_at dksX9_canUndo_0 1 rfl rfl)
theorem dX9_canUndo_4 : decode cX9_canUndo 4 = .ok (.bipush 20, 2) := dk_16 20 (dk_at dksX9_canUndo_0 4 rfl rfl)
theorem dX9_canUndo_6 : decode cX9_canUndo 6 = .ok (.if_icmp .ne 33, 3) := dk_160 0 33 (dk_at dksX9_canUndo_0 6 rfl rfl)
theorem dX9_canUndo_9 : decode cX9_canUndo 9 = .ok (.iconst 1, 1) := dk_4 (dk_at dksX9_canUndo_0 9 rfl rfl)
theorem dX9_canUndo_10 : decode cX9_canUndo 10 = .ok (.istore_n 1, 1) := dk_60 (dk_at dksX9_canUndo_0 10 rfl rfl)
theorem dX9_canUndo_11 : decode cX9_canUndo 11 = .ok (.iload_n 1, 1) := dk_27 (dk_at dksX9_canUndo_0 11 rfl rfl)
theorem dX9_canUndo_12 : decode cX9_canUndo 12 = .ok (.bipush 20, 2) := dk_16 20 (dk_at dksX9_canUndo_0 12 rfl rfl)
theorem dX9_canUndo_14 : decode cX9_canUndo 14 = .ok (.if_icmp .ge 19, 3) := dk_162 0 19 (dk_at dksX9_canUndo_0 14 rfl rfl)
theorem dX9_canUndo_17 : decode cX9_canUndo 17 = .ok (.aload_n 0, 1) := dk_42 (dk_at dksX9_canUndo_0 17 rfl rfl)
theorem dX9_canUndo_18 : decode cX9_canUndo 18 = .ok (.iconst 3, 1) := dk_6 (dk_at dksX9_canUndo_0 18 rfl rfl)
theorem dX9_canUndo_19 : decode cX9_canUndo 19 = .ok (.iload_n 1, 1) := dk_27 (dk_at dksX9_canUndo_0 19 rfl rfl)
theorem dX9_canUndo_20 : decode cX9_canUndo 20 = .ok (.iadd, 1) := dk_96 (dk_at dksX9_canUndo_0 20 rfl rfl)
theorem dX9_canUndo_21 : decode cX9_canUndo 21 = .ok (.iconst 2, 1) := dk_5 (dk_at dksX9_canUndo_0 21 rfl rfl)
theorem dX9_canUndo_22 : decode cX9_canUndo 22 = .ok (.iload_n 1, 1) := dk_27 (dk_at dksX9_canUndo_0 22 rfl rfl)
theorem dX9_canUndo_23 : decode cX9_canUndo 23 = .ok (.iadd, 1) := dk_96 (dk_at dksX9_canUndo_0 23 rfl rfl)
theorem dX9_canUndo_24 : decode cX9_canUndo 24 = .ok (.invokevirtual 178, 3) := dk_182 0 178 (dk_at dksX9_canUndo_1 0 rfl rfl)
theorem dX9_canUndo_27 : decode cX9_canUndo 27 = .ok (.iinc 1 1, 3) := dk_132 1 1 (dk_at dksX9_canUndo_1 3 rfl rfl)
theorem dX9_canUndo_30 : decode cX9_canUndo 30 = .ok (.goto (-19), 3) := dk_167 255 237 (dk_at dksX9_canUndo_1 6 rfl rfl)
theorem dX9_canUndo_33 : decode cX9_canUndo 33 = .ok (.aload_n 0, 1) := dk_42 (dk_at dksX9_canUndo_1 9 rfl rfl)
theorem dX9_canUndo_34 : decode cX9_canUndo 34 = .ok (.bipush 19, 2) := dk_16 19 (dk_at dksX9_canUndo_1 10 rfl rfl)
theorem dX9_canUndo_36 : decode cX9_canUndo 36 = .ok (.putfield 104, 3) := dk_181 0 104 (dk_at dksX9_canUndo_1 12 rfl rfl)
theorem dX9_canUndo_39 : decode cX9_canUndo 39 = .ok (.aload_n 0, 1) := dk_42 (dk_at dksX9_canUndo_1 15 rfl rfl)
theorem dX9_canUndo_40 : decode cX9_canUndo 40 = .ok (.iconst 0, 1) := dk_3 (dk_at dksX9_canUndo_1 16 rfl rfl)
theorem dX9_canUndo_41 : decode cX9_canUndo 41 = .ok (.iconst 3, 1) := dk_6 (dk_at dksX9_canUndo_1 17 rfl rfl)
theorem dX9_canUndo_42 : decode cX9_canUndo 42 = .ok (.aload_n 0, 1) := dk_42 (dk_at dksX9_canUndo_1 18 rfl rfl)
theorem dX9_canUndo_43 : decode cX9_canUndo 43 = .ok (.getfield 104, 3) := dk_180 0 104 (dk_at dksX9_canUndo_1 19 rfl rfl)
theorem dX9_canUndo_46 : decode cX9_canUndo 46 = .ok (.iadd, 1) := dk_96 (dk_at dksX9_canUndo_1 22 rfl rfl)
theorem dX9_canUndo_47 : decode cX9_canUndo 47 = .ok (.invokevirtual 178, 3) := dk_182 0 178 (dk_at dksX9_canUndo_2 0 rfl rfl)
theorem dX9_canUndo_50 : decode cX9_canUndo 50 = .ok (.aload_n 0, 1) := dk_42 (dk_at dksX9_canUndo_2 3 rfl rfl)
theorem dX9_canUndo_51 : decode cX9_canUndo 51 = .ok (.dup, 1) := dk_89 (dk_at dksX9_canUndo_2 4 rfl rfl)
theorem dX9_canUndo_52 : decode cX9_canUndo 52 = .ok (.getfield 104, 3) := dk_180 0 104 (dk_at dksX9_canUndo_2 5 rfl rfl)
theorem dX9_canUndo_55 : decode cX9_canUndo 55 = .ok (.iconst 1, 1) := dk_4 (dk_at dksX9_canUndo_2 8 rfl rfl)
theorem dX9_canUndo_56 : decode cX9_canUndo 56 = .ok (.iadd, 1) := dk_96 (dk_at dksX9_canUndo_2 9 rfl rfl)
theorem dX9_canUndo_57 : decode cX9_canUndo 57 = .ok (.putfield 104, 3) := dk_181 0 104 (dk_at dksX9_canUndo_2 10 rfl rfl)
theorem dX9_canUndo_60 : decode cX9_canUndo 60 = .ok (.return_, 1) := dk_177 (dk_at dksX9_canUndo_2 13 rfl rfl)
abbrev cX9_buy : ByteArray := prog_17_method_73_code
def yX9_buy : MethodName := ⟨RX9, "buy", "(III)I"⟩
def dkwX9_buy_3 : List UInt8 := [182, 0, 174, 172]
abbrev dktX9_buy_3 : List UInt8 := dkwX9_buy_3 ++ []
def dkwX9_buy_2 : List UInt8 := [28, 96, 182, 0, 181, 29, 182, 0, 184, 42, 42, 27, 42, 3, 182, 0, 174, 5, 28, 96, 182, 0, 181]
abbrev dktX9_buy_2 : List UInt8 := dkwX9_buy_2 ++ dktX9_buy_3
def dkwX9_buy_1 : List UInt8 := [17, 39, 15, 184, 0, 124, 154, 0, 5, 2, 172, 42, 182, 1, 43, 42, 42, 27, 42, 3, 182, 0, 174, 5]
abbrev dktX9_buy_1 : List UInt8 := dkwX9_buy_1 ++ dktX9_buy_2
def dkwX9_buy_0 : List UInt8 := [42, 3, 181, 0, 49, 42, 27, 182, 1, 40, 153, 0, 23, 28, 3, 5, 184, 0, 124, 153, 0, 14, 29, 4]
abbrev dktX9_buy_0 : List UInt8 := dkwX9_buy_0 ++ dktX9_buy_1
theorem dksX9_buy_0 : cX9_buy.data.toList.drop 0 = dktX9_buy_0 := by decide +kernel
theorem dksX9_buy_1 : cX9_buy.data.toList.drop 24 = dktX9_buy_1 := dk_seg dksX9_buy_0 24 rfl rfl
theorem dksX9_buy_2 : cX9_buy.data.toList.drop 48 = dktX9_buy_2 := dk_seg dksX9_buy_1 24 rfl rfl
theorem dksX9_buy_3 : cX9_buy.data.toList.drop 71 = dktX9_buy_3 := dk_seg dksX9_buy_2 23 rfl rfl
theorem dX9_buy_0 : decode cX9_buy 0 = .ok (.aload_n 0, 1) := dk_42 (dk_at dksX9_buy_0 0 rfl rfl)
theorem dX9_buy_1 : decode cX9_buy 1 = .ok (.iconst 0, 1) := dk_3 (dk_at dksX9_buy_0 1 rfl rfl)
theorem dX9_buy_2 : decode cX9_buy 2 = .ok (.putfield 49, 3) := dk_181 0 49 (dk_at dksX9_buy_0 2 rfl rfl)
theorem dX9_buy_5 : decode cX9_buy 5 = .ok (.aload_n 0, 1) := dk_42 (dk_at dksX9_buy_0 5 rfl rfl)
theorem dX9_buy_6 : decode cX9_buy 6 = .ok (.iload_n 1, 1) := dk_27 (dk_at dksX9_buy_0 6 rfl rfl)
theorem dX9_buy_7 : decode cX9_buy 7 = .ok (.invokevirtual 296, 3) := dk_182 1 40 (dk_at dksX9_buy_0 7 rfl rfl)
theorem dX9_buy_10 : decode cX9_buy 10 = .ok (.ifCond .eq 23, 3) := dk_153 0 23 (dk_at dksX9_buy_0 10 rfl rfl)
theorem dX9_buy_13 : decode cX9_buy 13 = .ok (.iload_n 2, 1) := dk_28 (dk_at dksX9_buy_0 13 rfl rfl)
theorem dX9_buy_14 : decode cX9_buy 14 = .ok (.iconst 0, 1) := dk_3 (dk_at dksX9_buy_0 14 rfl rfl)
theorem dX9_buy_15 : decode cX9_buy 15 = .ok (.iconst 2, 1) := dk_5 (dk_at dksX9_buy_0 15 rfl rfl)
theorem dX9_buy_16 : decode cX9_buy 16 = .ok (.invokestatic 124, 3) := dk_184 0 124 (dk_at dksX9_buy_0 16 rfl rfl)
theorem dX9_buy_19 : decode cX9_buy 19 = .ok (.ifCond .eq 14, 3) := dk_153 0 14 (dk_at dksX9_buy_0 19 rfl rfl)
theorem dX9_buy_22 : decode cX9_buy 22 = .ok (.iload_n 3, 1) := dk_29 (dk_at dksX9_buy_0 22 rfl rfl)
theorem dX9_buy_23 : decode cX9_buy 23 = .ok (.iconst 1, 1) := dk_4 (dk_at dksX9_buy_0 23 rfl rfl)
theorem dX9_buy_24 : decode cX9_buy 24 = .ok (.sipush 9999, 3) := dk_17 39 15 (dk_at dksX9_buy_1 0 rfl rfl)
theorem dX9_buy_27 : decode cX9_buy 27 = .ok (.invokestatic 124, 3) := dk_184 0 124 (dk_at dksX9_buy_1 3 rfl rfl)
theorem dX9_buy_30 : decode cX9_buy 30 = .ok (.ifCond .ne 5, 3) := dk_154 0 5 (dk_at dksX9_buy_1 6 rfl rfl)
theorem dX9_buy_33 : decode cX9_buy 33 = .ok (.iconst (-1), 1) := dk_2 (dk_at dksX9_buy_1 9 rfl rfl)
theorem dX9_buy_34 : decode cX9_buy 34 = .ok (.ireturn, 1) := dk_172 (dk_at dksX9_buy_1 10 rfl rfl)
theorem dX9_buy_35 : decode cX9_buy 35 = .ok (.aload_n 0, 1) := dk_42 (dk_at dksX9_buy_1 11 rfl rfl)
theorem dX9_buy_36 : decode cX9_buy 36 = .ok (.invokevirtual 299, 3) := dk_182 1 43 (dk_at dksX9_buy_1 12 rfl rfl)
theorem dX9_buy_39 : decode cX9_buy 39 = .ok (.aload_n 0, 1) := dk_42 (dk_at dksX9_buy_1 15 rfl rfl)
theorem dX9_buy_40 : decode cX9_buy 40 = .ok (.aload_n 0, 1) := dk_42 (dk_at dksX9_buy_1 16 rfl rfl)
theorem dX9_buy_41 : decode cX9_buy 41 = .ok (.iload_n 1, 1) := dk_27 (dk_at dksX9_buy_1 17 rfl rfl)
theorem dX9_buy_42 : decode cX9_buy 42 = .ok (.aload_n 0, 1) := dk_42 (dk_at dksX9_buy_1 18 rfl rfl)
theorem dX9_buy_43 : decode cX9_buy 43 = .ok (.iconst 0, 1) := dk_3 (dk_at dksX9_buy_1 19 rfl rfl)
theorem dX9_buy_44 : decode cX9_buy 44 = .ok (.invokevirtual 174, 3) := dk_182 0 174 (dk_at dksX9_buy_1 20 rfl rfl)
theorem dX9_buy_47 : decode cX9_buy 47 = .ok (.iconst 2, 1) := dk_5 (dk_at dksX9_buy_1 23 rfl rfl)
theorem dX9_buy_48 : decode cX9_buy 48 = .ok (.iload_n 2, 1) := dk_28 (dk_at dksX9_buy_2 0 rfl rfl)
theorem dX9_buy_49 : decode cX9_buy 49 = .ok (.iadd, 1) := dk_96 (dk_at dksX9_buy_2 1 rfl rfl)
theorem dX9_buy_50 : decode cX9_buy 50 = .ok (.invokevirtual 181, 3) := dk_182 0 181 (dk_at dksX9_buy_2 2 rfl rfl)
theorem dX9_buy_53 : decode cX9_buy 53 = .ok (.iload_n 3, 1) := dk_29 (dk_at dksX9_buy_2 5 rfl rfl)
theorem dX9_buy_54 : decode cX9_buy 54 = .ok (.invokevirtual 184, 3) := dk_182 0 184 (dk_at dksX9_buy_2 6 rfl rfl)
theorem dX9_buy_57 : decode cX9_buy 57 = .ok (.aload_n 0, 1) := dk_42 (dk_at dksX9_buy_2 9 rfl rfl)
theorem dX9_buy_58 : decode cX9_buy 58 = .ok (.aload_n 0, 1) := dk_42 (dk_at dksX9_buy_2 10 rfl rfl)
theorem dX9_buy_59 : decode cX9_buy 59 = .ok (.iload_n 1, 1) := dk_27 (dk_at dksX9_buy_2 11 rfl rfl)
theorem dX9_buy_60 : decode cX9_buy 60 = .ok (.aload_n 0, 1) := dk_42 (dk_at dksX9_buy_2 12 rfl rfl)
theorem dX9_buy_61 : decode cX9_buy 61 = .ok (.iconst 0, 1) := dk_3 (dk_at dksX9_buy_2 13 rfl rfl)
theorem dX9_buy_62 : decode cX9_buy 62 = .ok (.invokevirtual 174, 3) := dk_182 0 174 (dk_at dksX9_buy_2 14 rfl rfl)
theorem dX9_buy_65 : decode cX9_buy 65 = .ok (.iconst 2, 1) := dk_5 (dk_at dksX9_buy_2 17 rfl rfl)
theorem dX9_buy_66 : decode cX9_buy 66 = .ok (.iload_n 2, 1) := dk_28 (dk_at dksX9_buy_2 18 rfl rfl)
theorem dX9_buy_67 : decode cX9_buy 67 = .ok (.iadd, 1) := dk_96 (dk_at dksX9_buy_2 19 rfl rfl)
theorem dX9_buy_68 : decode cX9_buy 68 = .ok (.invokevirtual 181, 3) := dk_182 0 181 (dk_at dksX9_buy_2 20 rfl rfl)
theorem dX9_buy_71 : decode cX9_buy 71 = .ok (.invokevirtual 174, 3) := dk_182 0 174 (dk_at dksX9_buy_3 0 rfl rfl)
theorem dX9_buy_74 : decode cX9_buy 74 = .ok (.ireturn, 1) := dk_172 (dk_at dksX9_buy_3 3 rfl rfl)
abbrev cX9_late : ByteArray := prog_17_method_74_code
def yX9_late : MethodName := ⟨RX9, "late", "(IIII)I"⟩
def dkwX9_late_3 : List UInt8 := [21, 4, 182, 0, 184, 42, 42, 27, 28, 29, 182, 0, 181, 182, 0, 174, 172]
abbrev dktX9_late_3 : List UInt8 := dkwX9_late_3 ++ []
def dkwX9_late_2 : List UInt8 := [17, 39, 15, 184, 0, 124, 154, 0, 5, 2, 172, 42, 182, 1, 43, 42, 42, 27, 28, 29, 182, 0, 181]
abbrev dktX9_late_2 : List UInt8 := dkwX9_late_2 ++ dktX9_late_3
def dkwX9_late_1 : List UInt8 := [182, 0, 174, 4, 100, 184, 0, 124, 153, 0, 24, 29, 3, 7, 184, 0, 124, 153, 0, 15, 21, 4, 4]
abbrev dktX9_late_1 : List UInt8 := dkwX9_late_1 ++ dktX9_late_2
def dkwX9_late_0 : List UInt8 := [42, 3, 181, 0, 49, 42, 27, 182, 1, 40, 153, 0, 44, 28, 7, 42, 182, 0, 233, 104, 42, 3]
abbrev dktX9_late_0 : List UInt8 := dkwX9_late_0 ++ dktX9_late_1
theorem dksX9_late_0 : cX9_late.data.toList.drop 0 = dktX9_late_0 := by decide +kernel
theorem dksX9_late_1 : cX9_late.data.toList.drop 22 = dktX9_late_1 := dk_seg dksX9_late_0 22 rfl rfl
theorem dksX9_late_2 : cX9_late.data.toList.drop 45 = dktX9_late_2 := dk_seg dksX9_late_1 23 rfl rfl
theorem dksX9_late_3 : cX9_late.data.toList.drop 68 = dktX9_late_3 := dk_seg dksX9_late_2 23 rfl rfl
theorem dX9_late_0 : decode cX9_late 0 = .ok (.aload_n 0, 1) := dk_42 (dk_at dksX9_late_0 0 rfl rfl)
theorem dX9_late_1 : decode cX9_late 1 = .ok (.iconst 0, 1) := dk_3 (dk_at dksX9_late_0 1 rfl rfl)
theorem dX9_late_2 : decode cX9_late 2 = .ok (.putfield 49, 3) := dk_181 0 49 (dk_at dksX9_late_0 2 rfl rfl)
theorem dX9_late_5 : decode cX9_late 5 = .ok (.aload_n 0, 1) := dk_42 (dk_at dksX9_late_0 5 rfl rfl)
theorem dX9_late_6 : decode cX9_late 6 = .ok (.iload_n 1, 1) := dk_27 (dk_at dksX9_late_0 6 rfl rfl)
theorem dX9_late_7 : decode cX9_late 7 = .ok (.invokevirtual 296, 3) := dk_182 1 40 (dk_at dksX9_late_0 7 rfl rfl)
theorem dX9_late_10 : decode cX9_late 10 = .ok (.ifCond .eq 44, 3) := dk_153 0 44 (dk_at dksX9_late_0 10 rfl rfl)
theorem dX9_late_13 : decode cX9_late 13 = .ok (.iload_n 2, 1) := dk_28 (dk_at dksX9_late_0 13 rfl rfl)
theorem dX9_late_14 : decode cX9_late 14 = .ok (.iconst 4, 1) := dk_7 (dk_at dksX9_late_0 14 rfl rfl)
theorem dX9_late_15 : decode cX9_late 15 = .ok (.aload_n 0, 1) := dk_42 (dk_at dksX9_late_0 15 rfl rfl)
theorem dX9_late_16 : decode cX9_late 16 = .ok (.invokevirtual 233, 3) := dk_182 0 233 (dk_at dksX9_late_0 16 rfl rfl)
theorem dX9_late_19 : decode cX9_late 19 = .ok (.imul, 1) := dk_104 (dk_at dksX9_late_0 19 rfl rfl)
theorem dX9_late_20 : decode cX9_late 20 = .ok (.aload_n 0, 1) := dk_42 (dk_at dksX9_late_0 20 rfl rfl)
theorem dX9_late_21 : decode cX9_late 21 = .ok (.iconst 0, 1) := dk_3 (dk_at dksX9_late_0 21 rfl rfl)
theorem dX9_late_22 : decode cX9_late 22 = .ok (.invokevirtual 174, 3) := dk_182 0 174 (dk_at dksX9_late_1 0 rfl rfl)
theorem dX9_late_25 : decode cX9_late 25 = .ok (.iconst 1, 1) := dk_4 (dk_at dksX9_late_1 3 rfl rfl)
theorem dX9_late_26 : decode cX9_late 26 = .ok (.isub, 1) := dk_100 (dk_at dksX9_late_1 4 rfl rfl)
theorem dX9_late_27 : decode cX9_late 27 = .ok (.invokestatic 124, 3) := dk_184 0 124 (dk_at dksX9_late_1 5 rfl rfl)
theorem dX9_late_30 : decode cX9_late 30 = .ok (.ifCond .eq 24, 3) := dk_153 0 24 (dk_at dksX9_late_1 8 rfl rfl)
theorem dX9_late_33 : decode cX9_late 33 = .ok (.iload_n 3, 1) := dk_29 (dk_at dksX9_late_1 11 rfl rfl)
theorem dX9_late_34 : decode cX9_late 34 = .ok (.iconst 0, 1) := dk_3 (dk_at dksX9_late_1 12 rfl rfl)
theorem dX9_late_35 : decode cX9_late 35 = .ok (.iconst 4, 1) := dk_7 (dk_at dksX9_late_1 13 rfl rfl)
theorem dX9_late_36 : decode cX9_late 36 = .ok (.invokestatic 124, 3) := dk_184 0 124 (dk_at dksX9_late_1 14 rfl rfl)
theorem dX9_late_39 : decode cX9_late 39 = .ok (.ifCond .eq 15, 3) := dk_153 0 15 (dk_at dksX9_late_1 17 rfl rfl)
theorem dX9_late_42 : decode cX9_late 42 = .ok (.iload 4, 2) := dk_21 4 (dk_at dksX9_late_1 20 rfl rfl)
theorem dX9_late_44 : decode cX9_late 44 = .ok (.iconst 1, 1) := dk_4 (dk_at dksX9_late_1 22 rfl rfl)
theorem dX9_late_45 : decode cX9_late 45 = .ok (.sipush 9999, 3) := dk_17 39 15 (dk_at dksX9_late_2 0 rfl rfl)
theorem dX9_late_48 : decode cX9_late 48 = .ok (.invokestatic 124, 3) := dk_184 0 124 (dk_at dksX9_late_2 3 rfl rfl)
theorem dX9_late_51 : decode cX9_late 51 = .ok (.ifCond .ne 5, 3) := dk_154 0 5 (dk_at dksX9_late_2 6 rfl rfl)
theorem dX9_late_54 : decode cX9_late 54 = .ok (.iconst (-1), 1) := dk_2 (dk_at dksX9_late_2 9 rfl rfl)
theorem dX9_late_55 : decode cX9_late 55 = .ok (.ireturn, 1) := dk_172 (dk_at dksX9_late_2 10 rfl rfl)
theorem dX9_late_56 : decode cX9_late 56 = .ok (.aload_n 0, 1) := dk_42 (dk_at dksX9_late_2 11 rfl rfl)
theorem dX9_late_57 : decode cX9_late 57 = .ok (.invokevirtual 299, 3) := dk_182 1 43 (dk_at dksX9_late_2 12 rfl rfl)
theorem dX9_late_60 : decode cX9_late 60 = .ok (.aload_n 0, 1) := dk_42 (dk_at dksX9_late_2 15 rfl rfl)
theorem dX9_late_61 : decode cX9_late 61 = .ok (.aload_n 0, 1) := dk_42 (dk_at dksX9_late_2 16 rfl rfl)
theorem dX9_late_62 : decode cX9_late 62 = .ok (.iload_n 1, 1) := dk_27 (dk_at dksX9_late_2 17 rfl rfl)
theorem dX9_late_63 : decode cX9_late 63 = .ok (.iload_n 2, 1) := dk_28 (dk_at dksX9_late_2 18 rfl rfl)
theorem dX9_late_64 : decode cX9_late 64 = .ok (.iload_n 3, 1) := dk_29 (dk_at dksX9_late_2 19 rfl rfl)
theorem dX9_late_65 : decode cX9_late 65 = .ok (.invokevirtual 181, 3) := dk_182 0 181 (dk_at dksX9_late_2 20 rfl rfl)
theorem dX9_late_68 : decode cX9_late 68 = .ok (.iload 4, 2) := dk_21 4 (dk_at dksX9_late_3 0 rfl rfl)
theorem dX9_late_70 : decode cX9_late 70 = .ok (.invokevirtual 184, 3) := dk_182 0 184 (dk_at dksX9_late_3 2 rfl rfl)
theorem dX9_late_73 : decode cX9_late 73 = .ok (.aload_n 0, 1) := dk_42 (dk_at dksX9_late_3 5 rfl rfl)
theorem dX9_late_74 : decode cX9_late 74 = .ok (.aload_n 0, 1) := dk_42 (dk_at dksX9_late_3 6 rfl rfl)
theorem dX9_late_75 : decode cX9_late 75 = .ok (.iload_n 1, 1) := dk_27 (dk_at dksX9_late_3 7 rfl rfl)
theorem dX9_late_76 : decode cX9_late 76 = .ok (.iload_n 2, 1) := dk_28 (dk_at dksX9_late_3 8 rfl rfl)
theorem dX9_late_77 : decode cX9_late 77 = .ok (.iload_n 3, 1) := dk_29 (dk_at dksX9_late_3 9 rfl rfl)
theorem dX9_late_78 : decode cX9_late 78 = .ok (.invokevirtual 181, 3) := dk_182 0 181 (dk_at dksX9_late_3 10 rfl rfl)
theorem dX9_late_81 : decode cX9_late 81 = .ok (.invokevirtual 174, 3) := dk_182 0 174 (dk_at dksX9_late_3 13 rfl rfl)
theorem dX9_late_84 : decode cX9_late 84 = .ok (.ireturn, 1) := dk_172 (dk_at dksX9_late_3 16 rfl rfl)
abbrev cX9_year : ByteArray := prog_17_method_41_code
def yX9_year : MethodName := ⟨RX9, "year", "()I"⟩
def dkwX9_year_0 : List UInt8 := [42, 3, 182, 0, 174, 7, 108, 172]
abbrev dktX9_year_0 : List UInt8 := dkwX9_year_0 ++ []
theorem dksX9_year_0 : cX9_year.data.toList.drop 0 = dktX9_year_0 := by decide +kernel
theorem dX9_year_0 : decode cX9_year 0 = .ok (.aload_n 0, 1) := dk_42 (dk_at dksX9_year_0 0 rfl rfl)
theorem dX9_year_1 : decode cX9_year 1 = .ok (.iconst 0, 1) := dk_3 (dk_at dksX9_year_0 1 rfl rfl)
theorem dX9_year_2 : decode cX9_year 2 = .ok (.invokevirtual 174, 3) := dk_182 0 174 (dk_at dksX9_year_0 2 rfl rfl)
theorem dX9_year_5 : decode cX9_year 5 = .ok (.iconst 4, 1) := dk_7 (dk_at dksX9_year_0 5 rfl rfl)
theorem dX9_year_6 : decode cX9_year 6 = .ok (.idiv, 1) := dk_108 (dk_at dksX9_year_0 6 rfl rfl)
theorem dX9_year_7 : decode cX9_year 7 = .ok (.ireturn, 1) := dk_172 (dk_at dksX9_year_0 7 rfl rfl)
abbrev cX9_heads : ByteArray := prog_17_method_75_code
def yX9_heads : MethodName := ⟨RX9, "heads", "(III)Z"⟩
def dkwX9_heads_2 : List UInt8 := [182, 0, 111, 42, 17, 5, 1, 5, 27, 104, 96, 4, 96, 29, 182, 0, 111, 4, 172]
abbrev dktX9_heads_2 : List UInt8 := dkwX9_heads_2 ++ []
def dkwX9_heads_1 : List UInt8 := [28, 3, 29, 184, 0, 124, 154, 0, 5, 3, 172, 42, 182, 1, 43, 42, 17, 5, 1, 5, 27, 104, 96, 28]
abbrev dktX9_heads_1 : List UInt8 := dkwX9_heads_1 ++ dktX9_heads_2
def dkwX9_heads_0 : List UInt8 := [42, 3, 181, 0, 49, 42, 27, 182, 1, 40, 153, 0, 23, 29, 3, 17, 3, 231, 184, 0, 124, 153, 0, 12]
abbrev dktX9_heads_0 : List UInt8 := dkwX9_heads_0 ++ dktX9_heads_1
theorem dksX9_heads_0 : cX9_heads.data.toList.drop 0 = dktX9_heads_0 := by decide +kernel
theorem dksX9_heads_1 : cX9_heads.data.toList.drop 24 = dktX9_heads_1 := dk_seg dksX9_heads_0 24 rfl rfl
theorem dksX9_heads_2 : cX9_heads.data.toList.drop 48 = dktX9_heads_2 := dk_seg dksX9_heads_1 24 rfl rfl
theorem dX9_heads_0 : decode cX9_heads 0 = .ok (.aload_n 0, 1) := dk_42 (dk_at dksX9_heads_0 0 rfl rfl)
theorem dX9_heads_1 : decode cX9_heads 1 = .ok (.iconst 0, 1) := dk_3 (dk_at dksX9_heads_0 1 rfl rfl)
theorem dX9_heads_2 : decode cX9_heads 2 = .ok (.putfield 49, 3) := dk_181 0 49 (dk_at dksX9_heads_0 2 rfl rfl)
theorem dX9_heads_5 : decode cX9_heads 5 = .ok (.aload_n 0, 1) := dk_42 (dk_at dksX9_heads_0 5 rfl rfl)
theorem dX9_heads_6 : decode cX9_heads 6 = .ok (.iload_n 1, 1) := dk_27 (dk_at dksX9_heads_0 6 rfl rfl)
theorem dX9_heads_7 : decode cX9_heads 7 = .ok (.invokevirtual 296, 3) := dk_182 1 40 (dk_at dksX9_heads_0 7 rfl rfl)
theorem dX9_heads_10 : decode cX9_heads 10 = .ok (.ifCond .eq 23, 3) := dk_153 0 23 (dk_at dksX9_heads_0 10 rfl rfl)
theorem dX9_heads_13 : decode cX9_heads 13 = .ok (.iload_n 3, 1) := dk_29 (dk_at dksX9_heads_0 13 rfl rfl)
theorem dX9_heads_14 : decode cX9_heads 14 = .ok (.iconst 0, 1) := dk_3 (dk_at dksX9_heads_0 14 rfl rfl)
theorem dX9_heads_15 : decode cX9_heads 15 = .ok (.sipush 999, 3) := dk_17 3 231 (dk_at dksX9_heads_0 15 rfl rfl)
theorem dX9_heads_18 : decode cX9_heads 18 = .ok (.invokestatic 124, 3) := dk_184 0 124 (dk_at dksX9_heads_0 18 rfl rfl)
theorem dX9_heads_21 : decode cX9_heads 21 = .ok (.ifCond .eq 12, 3) := dk_153 0 12 (dk_at dksX9_heads_0 21 rfl rfl)
theorem dX9_heads_24 : decode cX9_heads 24 = .ok (.iload_n 2, 1) := dk_28 (dk_at dksX9_heads_1 0 rfl rfl)
theorem dX9_heads_25 : decode cX9_heads 25 = .ok (.iconst 0, 1) := dk_3 (dk_at dksX9_heads_1 1 rfl rfl)
theorem dX9_heads_26 : decode cX9_heads 26 = .ok (.iload_n 3, 1) := dk_29 (dk_at dksX9_heads_1 2 rfl rfl)
theorem dX9_heads_27 : decode cX9_heads 27 = .ok (.invokestatic 124, 3) := dk_184 0 124 (dk_at dksX9_heads_1 3 rfl rfl)
theorem dX9_heads_30 : decode cX9_heads 30 = .ok (.ifCond .ne 5, 3) := dk_154 0 5 (dk_at dksX9_heads_1 6 rfl rfl)
theorem dX9_heads_33 : decode cX9_heads 33 = .ok (.iconst 0, 1) := dk_3 (dk_at dksX9_heads_1 9 rfl rfl)
theorem dX9_heads_34 : decode cX9_heads 34 = .ok (.ireturn, 1) := dk_172 (dk_at dksX9_heads_1 10 rfl rfl)
theorem dX9_heads_35 : decode cX9_heads 35 = .ok (.aload_n 0, 1) := dk_42 (dk_at dksX9_heads_1 11 rfl rfl)
theorem dX9_heads_36 : decode cX9_heads 36 = .ok (.invokevirtual 299, 3) := dk_182 1 43 (dk_at dksX9_heads_1 12 rfl rfl)
theorem dX9_heads_39 : decode cX9_heads 39 = .ok (.aload_n 0, 1) := dk_42 (dk_at dksX9_heads_1 15 rfl rfl)
theorem dX9_heads_40 : decode cX9_heads 40 = .ok (.sipush 1281, 3) := dk_17 5 1 (dk_at dksX9_heads_1 16 rfl rfl)
theorem dX9_heads_43 : decode cX9_heads 43 = .ok (.iconst 2, 1) := dk_5 (dk_at dksX9_heads_1 19 rfl rfl)
theorem dX9_heads_44 : decode cX9_heads 44 = .ok (.iload_n 1, 1) := dk_27 (dk_at dksX9_heads_1 20 rfl rfl)
theorem dX9_heads_45 : decode cX9_heads 45 = .ok (.imul, 1) := dk_104 (dk_at dksX9_heads_1 21 rfl rfl)
theorem dX9_heads_46 : decode cX9_heads 46 = .ok (.iadd, 1) := dk_96 (dk_at dksX9_heads_1 22 rfl rfl)
theorem dX9_heads_47 : decode cX9_heads 47 = .ok (.iload_n 2, 1) := dk_28 (dk_at dksX9_heads_1 23 rfl rfl)
theorem dX9_heads_48 : decode cX9_heads 48 = .ok (.invokevirtual 111, 3) := dk_182 0 111 (dk_at dksX9_heads_2 0 rfl rfl)
theorem dX9_heads_51 : decode cX9_heads 51 = .ok (.aload_n 0, 1) := dk_42 (dk_at dksX9_heads_2 3 rfl rfl)
theorem dX9_heads_52 : decode cX9_heads 52 = .ok (.sipush 1281, 3) := dk_17 5 1 (dk_at dksX9_heads_2 4 rfl rfl)
theorem dX9_heads_55 : decode cX9_heads 55 = .ok (.iconst 2, 1) := dk_5 (dk_at dksX9_heads_2 7 rfl rfl)
theorem dX9_heads_56 : decode cX9_heads 56 = .ok (.iload_n 1, 1) := dk_27 (dk_at dksX9_heads_2 8 rfl rfl)
theorem dX9_heads_57 : decode cX9_heads 57 = .ok (.imul, 1) := dk_104 (dk_at dksX9_heads_2 9 rfl rfl)
theorem dX9_heads_58 : decode cX9_heads 58 = .ok (.iadd, 1) := dk_96 (dk_at dksX9_heads_2 10 rfl rfl)
theorem dX9_heads_59 : decode cX9_heads 59 = .ok (.iconst 1, 1) := dk_4 (dk_at dksX9_heads_2 11 rfl rfl)
theorem dX9_heads_60 : decode cX9_heads 60 = .ok (.iadd, 1) := dk_96 (dk_at dksX9_heads_2 12 rfl rfl)
theorem dX9_heads_61 : decode cX9_heads 61 = .ok (.iload_n 3, 1) := dk_29 (dk_at dksX9_heads_2 13 rfl rfl)
theorem dX9_heads_62 : decode cX9_heads 62 = .ok (.invokevirtual 111, 3) := dk_182 0 111 (dk_at dksX9_heads_2 14 rfl rfl)
theorem dX9_heads_65 : decode cX9_heads 65 = .ok (.iconst 1, 1) := dk_4 (dk_at dksX9_heads_2 17 rfl rfl)
theorem dX9_heads_66 : decode cX9_heads 66 = .ok (.ireturn, 1) := dk_172 (dk_at dksX9_heads_2 18 rfl rfl)
abbrev cX9_acquire : ByteArray := prog_17_method_76_code
def yX9_acquire : MethodName := ⟨RX9, "acquire", "(IIII)I"⟩
def dkwX9_acquire_3 : List UInt8 := [182, 0, 187, 172]
abbrev dktX9_acquire_3 : List UInt8 := dkwX9_acquire_3 ++ []
def dkwX9_acquire_2 : List UInt8 := [17, 7, 73, 182, 0, 174, 16, 8, 160, 0, 6, 16, 254, 172, 42, 182, 1, 43, 42, 27, 28, 29, 21, 4]
abbrev dktX9_acquire_2 : List UInt8 := dkwX9_acquire_2 ++ dktX9_acquire_3
def dkwX9_acquire_1 : List UInt8 := [18, 87, 184, 0, 124, 153, 0, 16, 21, 4, 8, 159, 0, 12, 21, 4, 16, 10, 159, 0, 5, 2, 172, 42]
abbrev dktX9_acquire_1 : List UInt8 := dkwX9_acquire_1 ++ dktX9_acquire_2
def dkwX9_acquire_0 : List UInt8 := [42, 3, 181, 0, 49, 42, 27, 182, 1, 40, 153, 0, 35, 28, 3, 5, 184, 0, 124, 153, 0, 26, 29, 4]
abbrev dktX9_acquire_0 : List UInt8 := dkwX9_acquire_0 ++ dktX9_acquire_1
theorem dksX9_acquire_0 : cX9_acquire.data.toList.drop 0 = dktX9_acquire_0 := by decide +kernel
theorem dksX9_acquire_1 : cX9_acquire.data.toList.drop 24 = dktX9_acquire_1 := dk_seg dksX9_acquire_0 24 rfl rfl
theorem dksX9_acquire_2 : cX9_acquire.data.toList.drop 48 = dktX9_acquire_2 := dk_seg dksX9_acquire_1 24 rfl rfl
theorem dksX9_acquire_3 : cX9_acquire.data.toList.drop 72 = dktX9_acquire_3 := dk_seg dksX9_acquire_2 24 rfl rfl
theorem dX9_acquire_0 : decode cX9_acquire 0 = .ok (.aload_n 0, 1) := dk_42 (dk_at dksX9_acquire_0 0 rfl rfl)
theorem dX9_acquire_1 : decode cX9_acquire 1 = .ok (.iconst 0, 1) := dk_3 (dk_at dksX9_acquire_0 1 rfl rfl)
theorem dX9_acquire_2 : decode cX9_acquire 2 = .ok (.putfield 49, 3) := dk_181 0 49 (dk_at dksX9_acquire_0 2 rfl rfl)
theorem dX9_acquire_5 : decode cX9_acquire 5 = .ok (.aload_n 0, 1) := dk_42 (dk_at dksX9_acquire_0 5 rfl rfl)
theorem dX9_acquire_6 : decode cX9_acquire 6 = .ok (.iload_n 1, 1) := dk_27 (dk_at dksX9_acquire_0 6 rfl rfl)
theorem dX9_acquire_7 : decode cX9_acquire 7 = .ok (.invokevirtual 296, 3) := dk_182 1 40 (dk_at dksX9_acquire_0 7 rfl rfl)
theorem dX9_acquire_10 : decode cX9_acquire 10 = .ok (.ifCond .eq 35, 3) := dk_153 0 35 (dk_at dksX9_acquire_0 10 rfl rfl)
theorem dX9_acquire_13 : decode cX9_acquire 13 = .ok (.iload_n 2, 1) := dk_28 (dk_at dksX9_acquire_0 13 rfl rfl)
theorem dX9_acquire_14 : decode cX9_acquire 14 = .ok (.iconst 0, 1) := dk_3 (dk_at dksX9_acquire_0 14 rfl rfl)
theorem dX9_acquire_15 : decode cX9_acquire 15 = .ok (.iconst 2, 1) := dk_5 (dk_at dksX9_acquire_0 15 rfl rfl)
theorem dX9_acquire_16 : decode cX9_acquire 16 = .ok (.invokestatic 124, 3) := dk_184 0 124 (dk_at dksX9_acquire_0 16 rfl rfl)
theorem dX9_acquire_19 : decode cX9_acquire 19 = .ok (.ifCond .eq 26, 3) := dk_153 0 26 (dk_at dksX9_acquire_0 19 rfl rfl)
theorem dX9_acquire_22 : decode cX9_acquire 22 = .ok (.iload_n 3, 1) := dk_29 (dk_at dksX9_acquire_0 22 rfl rfl)
theorem dX9_acquire_23 : decode cX9_acquire 23 = .ok (.iconst 1, 1) := dk_4 (dk_at dksX9_acquire_0 23 rfl rfl)
theorem dX9_acquire_24 : decode cX9_acquire 24 = .ok (.ldc 87, 2) := dk_18 87 (dk_at dksX9_acquire_1 0 rfl rfl)
theorem dX9_acquire_26 : decode cX9_acquire 26 = .ok (.invokestatic 124, 3) := dk_184 0 124 (dk_at dksX9_acquire_1 2 rfl rfl)
theorem dX9_acquire_29 : decode cX9_acquire 29 = .ok (.ifCond .eq 16, 3) := dk_153 0 16 (dk_at dksX9_acquire_1 5 rfl rfl)
theorem dX9_acquire_32 : decode cX9_acquire 32 = .ok (.iload 4, 2) := dk_21 4 (dk_at dksX9_acquire_1 8 rfl rfl)
theorem dX9_acquire_34 : decode cX9_acquire 34 = .ok (.iconst 5, 1) := dk_8 (dk_at dksX9_acquire_1 10 rfl rfl)
theorem dX9_acquire_35 : decode cX9_acquire 35 = .ok (.if_icmp .eq 12, 3) := dk_159 0 12 (dk_at dksX9_acquire_1 11 rfl rfl)
theorem dX9_acquire_38 : decode cX9_acquire 38 = .ok (.iload 4, 2) := dk_21 4 (dk_at dksX9_acquire_1 14 rfl rfl)
theorem dX9_acquire_40 : decode cX9_acquire 40 = .ok (.bipush 10, 2) := dk_16 10 (dk_at dksX9_acquire_1 16 rfl rfl)
theorem dX9_acquire_42 : decode cX9_acquire 42 = .ok (.if_icmp .eq 5, 3) := dk_159 0 5 (dk_at dksX9_acquire_1 18 rfl rfl)
theorem dX9_acquire_45 : decode cX9_acquire 45 = .ok (.iconst (-1), 1) := dk_2 (dk_at dksX9_acquire_1 21 rfl rfl)
theorem dX9_acquire_46 : decode cX9_acquire 46 = .ok (.ireturn, 1) := dk_172 (dk_at dksX9_acquire_1 22 rfl rfl)
theorem dX9_acquire_47 : decode cX9_acquire 47 = .ok (.aload_n 0, 1) := dk_42 (dk_at dksX9_acquire_1 23 rfl rfl)
theorem dX9_acquire_48 : decode cX9_acquire 48 = .ok (.sipush 1865, 3) := dk_17 7 73 (dk_at dksX9_acquire_2 0 rfl rfl)
theorem dX9_acquire_51 : decode cX9_acquire 51 = .ok (.invokevirtual 174, 3) := dk_182 0 174 (dk_at dksX9_acquire_2 3 rfl rfl)
theorem dX9_acquire_54 : decode cX9_acquire 54 = .ok (.bipush 8, 2) := dk_16 8 (dk_at dksX9_acquire_2 6 rfl rfl)
theorem dX9_acquire_56 : decode cX9_acquire 56 = .ok (.if_icmp .ne 6, 3) := dk_160 0 6 (dk_at dksX9_acquire_2 8 rfl rfl)
theorem dX9_acquire_59 : decode cX9_acquire 59 = .ok (.bipush (-2), 2) := dk_16 254 (dk_at dksX9_acquire_2 11 rfl rfl)
theorem dX9_acquire_61 : decode cX9_acquire 61 = .ok (.ireturn, 1) := dk_172 (dk_at dksX9_acquire_2 13 rfl rfl)
theorem dX9_acquire_62 : decode cX9_acquire 62 = .ok (.aload_n 0, 1) := dk_42 (dk_at dksX9_acquire_2 14 rfl rfl)
theorem dX9_acquire_63 : decode cX9_acquire 63 = .ok (.invokevirtual 299, 3) := dk_182 1 43 (dk_at dksX9_acquire_2 15 rfl rfl)
theorem dX9_acquire_66 : decode cX9_acquire 66 = .ok (.aload_n 0, 1) := dk_42 (dk_at dksX9_acquire_2 18 rfl rfl)
theorem dX9_acquire_67 : decode cX9_acquire 67 = .ok (.iload_n 1, 1) := dk_27 (dk_at dksX9_acquire_2 19 rfl rfl)
theorem dX9_acquire_68 : decode cX9_acquire 68 = .ok (.iload_n 2, 1) := dk_28 (dk_at dksX9_acquire_2 20 rfl rfl)
theorem dX9_acquire_69 : decode cX9_acquire 69 = .ok (.iload_n 3, 1) := dk_29 (dk_at dksX9_acquire_2 21 rfl rfl)
theorem dX9_acquire_70 : decode cX9_acquire 70 = .ok (.iload 4, 2) := dk_21 4 (dk_at dksX9_acquire_2 22 rfl rfl)
theorem dX9_acquire_72 : decode cX9_acquire 72 = .ok (.invokevirtual 187, 3) := dk_182 0 187 (dk_at dksX9_acquire_3 0 rfl rfl)
theorem dX9_acquire_75 : decode cX9_acquire 75 = .ok (.ireturn, 1) := dk_172 (dk_at dksX9_acquire_3 3 rfl rfl)
abbrev cX9_use : ByteArray := prog_17_method_79_code
def yX9_use : MethodName := ⟨RX9, "use", "(II)Z"⟩
def dkwX9_use_2 : List UInt8 := [42, 27, 5, 28, 182, 0, 191, 4, 172]
abbrev dktX9_use_2 : List UInt8 := dkwX9_use_2 ++ []
def dkwX9_use_1 : List UInt8 := [182, 1, 49, 154, 0, 15, 42, 27, 42, 182, 0, 233, 182, 1, 14, 154, 0, 5, 3, 172, 42, 182, 1, 43]
abbrev dktX9_use_1 : List UInt8 := dkwX9_use_1 ++ dktX9_use_2
def dkwX9_use_0 : List UInt8 := [42, 3, 181, 0, 49, 42, 27, 182, 1, 46, 153, 0, 32, 28, 3, 5, 184, 0, 124, 153, 0, 23, 42, 27]
abbrev dktX9_use_0 : List UInt8 := dkwX9_use_0 ++ dktX9_use_1
theorem dksX9_use_0 : cX9_use.data.toList.drop 0 = dktX9_use_0 := by decide +kernel
theorem dksX9_use_1 : cX9_use.data.toList.drop 24 = dktX9_use_1 := dk_seg dksX9_use_0 24 rfl rfl
theorem dksX9_use_2 : cX9_use.data.toList.drop 48 = dktX9_use_2 := dk_seg dksX9_use_1 24 rfl rfl
theorem dX9_use_0 : decode cX9_use 0 = .ok (.aload_n 0, 1) := dk_42 (dk_at dksX9_use_0 0 rfl rfl)
theorem dX9_use_1 : decode cX9_use 1 = .ok (.iconst 0, 1) := dk_3 (dk_at dksX9_use_0 1 rfl rfl)
theorem dX9_use_2 : decode cX9_use 2 = .ok (.putfield 49, 3) := dk_181 0 49 (dk_at dksX9_use_0 2 rfl rfl)
theorem dX9_use_5 : decode cX9_use 5 = .ok (.aload_n 0, 1) := dk_42 (dk_at dksX9_use_0 5 rfl rfl)
theorem dX9_use_6 : decode cX9_use 6 = .ok (.iload_n 1, 1) := dk_27 (dk_at dksX9_use_0 6 rfl rfl)
theorem dX9_use_7 : decode cX9_use 7 = .ok (.invokevirtual 302, 3) := dk_182 1 46 (dk_at dksX9_use_0 7 rfl rfl)
theorem dX9_use_10 : decode cX9_use 10 = .ok (.ifCond .eq 32, 3) := dk_153 0 32 (dk_at dksX9_use_0 10 rfl rfl)
theorem dX9_use_13 : decode cX9_use 13 = .ok (.iload_n 2, 1) := dk_28 (dk_at dksX9_use_0 13 rfl rfl)
theorem dX9_use_14 : decode cX9_use 14 = .ok (.iconst 0, 1) := dk_3 (dk_at dksX9_use_0 14 rfl rfl)
theorem dX9_use_15 : decode cX9_use 15 = .ok (.iconst 2, 1) := dk_5 (dk_at dksX9_use_0 15 rfl rfl)
theorem dX9_use_16 : decode cX9_use 16 = .ok (.invokestatic 124, 3) := dk_184 0 124 (dk_at dksX9_use_0 16 rfl rfl)
theorem dX9_use_19 : decode cX9_use 19 = .ok (.ifCond .eq 23, 3) := dk_153 0 23 (dk_at dksX9_use_0 19 rfl rfl)
theorem dX9_use_22 : decode cX9_use 22 = .ok (.aload_n 0, 1) := dk_42 (dk_at dksX9_use_0 22 rfl rfl)
theorem dX9_use_23 : decode cX9_use 23 = .ok (.iload_n 1, 1) := dk_27 (dk_at dksX9_use_0 23 rfl rfl)
theorem dX9_use_24 : decode cX9_use 24 = .ok (.invokevirtual 305, 3) := dk_182 1 49 (dk_at dksX9_use_1 0 rfl rfl)
theorem dX9_use_27 : decode cX9_use 27 = .ok (.ifCond .ne 15, 3) := dk_154 0 15 (dk_at dksX9_use_1 3 rfl rfl)
theorem dX9_use_30 : decode cX9_use 30 = .ok (.aload_n 0, 1) := dk_42 (dk_at dksX9_use_1 6 rfl rfl)
theorem dX9_use_31 : decode cX9_use 31 = .ok (.iload_n 1, 1) := dk_27 (dk_at dksX9_use_1 7 rfl rfl)
theorem dX9_use_32 : decode cX9_use 32 = .ok (.aload_n 0, 1) := dk_42 (dk_at dksX9_use_1 8 rfl rfl)
theorem dX9_use_33 : decode cX9_use 33 = .ok (.invokevirtual 233, 3) := dk_182 0 233 (dk_at dksX9_use_1 9 rfl rfl)
theorem dX9_use_36 : decode cX9_use 36 = .ok (.invokevirtual 270, 3) := dk_182 1 14 (dk_at dksX9_use_1 12 rfl rfl)
theorem dX9_use_39 : decode cX9_use 39 = .ok (.ifCond .ne 5, 3) := dk_154 0 5 (dk_at dksX9_use_1 15 rfl rfl)
theorem dX9_use_42 : decode cX9_use 42 = .ok (.iconst 0, 1) := dk_3 (dk_at dksX9_use_1 18 rfl rfl)
theorem dX9_use_43 : decode cX9_use 43 = .ok (.ireturn, 1) := dk_172 (dk_at dksX9_use_1 19 rfl rfl)
theorem dX9_use_44 : decode cX9_use 44 = .ok (.aload_n 0, 1) := dk_42 (dk_at dksX9_use_1 20 rfl rfl)
theorem dX9_use_45 : decode cX9_use 45 = .ok (.invokevirtual 299, 3) := dk_182 1 43 (dk_at dksX9_use_1 21 rfl rfl)
theorem dX9_use_48 : decode cX9_use 48 = .ok (.aload_n 0, 1) := dk_42 (dk_at dksX9_use_2 0 rfl rfl)
theorem dX9_use_49 : decode cX9_use 49 = .ok (.iload_n 1, 1) := dk_27 (dk_at dksX9_use_2 1 rfl rfl)
theorem dX9_use_50 : decode cX9_use 50 = .ok (.iconst 2, 1) := dk_5 (dk_at dksX9_use_2 2 rfl rfl)
theorem dX9_use_51 : decode cX9_use 51 = .ok (.iload_n 2, 1) := dk_28 (dk_at dksX9_use_2 3 rfl rfl)
theorem dX9_use_52 : decode cX9_use 52 = .ok (.invokevirtual 191, 3) := dk_182 0 191 (dk_at dksX9_use_2 4 rfl rfl)
theorem dX9_use_55 : decode cX9_use 55 = .ok (.iconst 1, 1) := dk_4 (dk_at dksX9_use_2 7 rfl rfl)
theorem dX9_use_56 : decode cX9_use 56 = .ok (.ireturn, 1) := dk_172 (dk_at dksX9_use_2 8 rfl rfl)
abbrev cX9_isAsset : ByteArray := prog_17_method_77_code
def yX9_isAsset : MethodName := ⟨RX9, "isAsset", "(I)Z"⟩
def dkwX9_isAsset_0 : List UInt8 := [27, 155, 0, 18, 27, 42, 17, 7, 73, 182, 0, 174, 162, 0, 7, 4, 167, 0, 4, 3, 172]
abbrev dktX9_isAsset_0 : List UInt8 := dkwX9_isAsset_0 ++ []
theorem dksX9_isAsset_0 : cX9_isAsset.data.toList.drop 0 = dktX9_isAsset_0 := by decide +kernel
theorem dX9_isAsset_0 : decode cX9_isAsset 0 = .ok (.iload_n 1, 1) := dk_27 (dk_at dksX9_isAsset_0 0 rfl rfl)
theorem dX9_isAsset_1 : decode cX9_isAsset 1 = .ok (.ifCond .lt 18, 3) := dk_155 0 18 (dk_at dksX9_isAsset_0 1 rfl rfl)
theorem dX9_isAsset_4 : decode cX9_isAsset 4 = .ok (.iload_n 1, 1) := dk_27 (dk_at dksX9_isAsset_0 4 rfl rfl)
theorem dX9_isAsset_5 : decode cX9_isAsset 5 = .ok (.aload_n 0, 1) := dk_42 (dk_at dksX9_isAsset_0 5 rfl rfl)
theorem dX9_isAsset_6 : decode cX9_isAsset 6 = .ok (.sipush 1865, 3) := dk_17 7 73 (dk_at dksX9_isAsset_0 6 rfl rfl)
theorem dX9_isAsset_9 : decode cX9_isAsset 9 = .ok (.invokevirtual 174, 3) := dk_182 0 174 (dk_at dksX9_isAsset_0 9 rfl rfl)
theorem dX9_isAsset_12 : decode cX9_isAsset 12 = .ok (.if_icmp .ge 7, 3) := dk_162 0 7 (dk_at dksX9_isAsset_0 12 rfl rfl)
theorem dX9_isAsset_15 : decode cX9_isAsset 15 = .ok (.iconst 1, 1) := dk_4 (dk_at dksX9_isAsset_0 15 rfl rfl)
theorem dX9_isAsset_16 : decode cX9_isAsset 16 = .ok (.goto 4, 3) := dk_167 0 4 (dk_at dksX9_isAsset_0 16 rfl rfl)
theorem dX9_isAsset_19 : decode cX9_isAsset 19 = .ok (.iconst 0, 1) := dk_3 (dk_at dksX9_isAsset_0 19 rfl rfl)
theorem dX9_isAsset_20 : decode cX9_isAsset 20 = .ok (.ireturn, 1) := dk_172 (dk_at dksX9_isAsset_0 20 rfl rfl)
abbrev cX9_isGone : ByteArray := prog_17_method_78_code
def yX9_isGone : MethodName := ⟨RX9, "isGone", "(I)Z"⟩
def dkwX9_isGone_1 : List UInt8 := [167, 0, 4, 3, 172]
abbrev dktX9_isGone_1 : List UInt8 := dkwX9_isGone_1 ++ []
def dkwX9_isGone_0 : List UInt8 := [42, 27, 16, 9, 182, 1, 0, 4, 159, 0, 13, 42, 27, 16, 7, 182, 1, 0, 158, 0, 7, 4]
abbrev dktX9_isGone_0 : List UInt8 := dkwX9_isGone_0 ++ dktX9_isGone_1
theorem dksX9_isGone_0 : cX9_isGone.data.toList.drop 0 = dktX9_isGone_0 := by decide +kernel
theorem dksX9_isGone_1 : cX9_isGone.data.toList.drop 22 = dktX9_isGone_1 := dk_seg dksX9_isGone_0 22 rfl rfl
theorem dX9_isGone_0 : decode cX9_isGone 0 = .ok (.aload_n 0, 1) := dk_42 (dk_at dksX9_isGone_0 0 rfl rfl)
theorem dX9_isGone_1 : decode cX9_isGone 1 = .ok (.iload_n 1, 1) := dk_27 (dk_at dksX9_isGone_0 1 rfl rfl)
theorem dX9_isGone_2 : decode cX9_isGone 2 = .ok (.bipush 9, 2) := dk_16 9 (dk_at dksX9_isGone_0 2 rfl rfl)
theorem dX9_isGone_4 : decode cX9_isGone 4 = .ok (.invokevirtual 256, 3) := dk_182 1 0 (dk_at dksX9_isGone_0 4 rfl rfl)
theorem dX9_isGone_7 : decode cX9_isGone 7 = .ok (.iconst 1, 1) := dk_4 (dk_at dksX9_isGone_0 7 rfl rfl)
theorem dX9_isGone_8 : decode cX9_isGone 8 = .ok (.if_icmp .eq 13, 3) := dk_159 0 13 (dk_at dksX9_isGone_0 8 rfl rfl)
theorem dX9_isGone_11 : decode cX9_isGone 11 = .ok (.aload_n 0, 1) := dk_42 (dk_at dksX9_isGone_0 11 rfl rfl)
theorem dX9_isGone_12 : decode cX9_isGone 12 = .ok (.iload_n 1, 1) := dk_27 (dk_at dksX9_isGone_0 12 rfl rfl)
theorem dX9_isGone_13 : decode cX9_isGone 13 = .ok (.bipush 7, 2) := dk_16 7 (dk_at dksX9_isGone_0 13 rfl rfl)
theorem dX9_isGone_15 : decode cX9_isGone 15 = .ok (.invokevirtual 256, 3) := dk_182 1 0 (dk_at dksX9_isGone_0 15 rfl rfl)
theorem dX9_isGone_18 : decode cX9_isGone 18 = .ok (.ifCond .le 7, 3) := dk_158 0 7 (dk_at dksX9_isGone_0 18 rfl rfl)
theorem dX9_isGone_21 : decode cX9_isGone 21 = .ok (.iconst 1, 1) := dk_4 (dk_at dksX9_isGone_0 21 rfl rfl)
theorem dX9_isGone_22 : decode cX9_isGone 22 = .ok (.goto 4, 3) := dk_167 0 4 (dk_at dksX9_isGone_1 0 rfl rfl)
theorem dX9_isGone_25 : decode cX9_isGone 25 = .ok (.iconst 0, 1) := dk_3 (dk_at dksX9_isGone_1 3 rfl rfl)
theorem dX9_isGone_26 : decode cX9_isGone 26 = .ok (.ireturn, 1) := dk_172 (dk_at dksX9_isGone_1 4 rfl rfl)
abbrev cX9_at : ByteArray := prog_17_method_34_code
def yX9_at : MethodName := ⟨RX9, "at", "(II)I"⟩
def dkwX9_at_0 : List UInt8 := [42, 17, 8, 36, 16, 48, 27, 104, 96, 28, 96, 182, 0, 174, 172]
abbrev dktX9_at_0 : List UInt8 := dkwX9_at_0 ++ []
theorem dksX9_at_0 : cX9_at.data.toList.drop 0 = dktX9_at_0 := by decide +kernel
theorem dX9_at_0 : decode cX9_at 0 = .ok (.aload_n 0, 1) := dk_42 (dk_at dksX9_at_0 0 rfl rfl)
theorem dX9_at_1 : decode cX9_at 1 = .ok (.sipush 2084, 3) := dk_17 8 36 (dk_at dksX9_at_0 1 rfl rfl)
theorem dX9_at_4 : decode cX9_at 4 = .ok (.bipush 48, 2) := dk_16 48 (dk_at dksX9_at_0 4 rfl rfl)
theorem dX9_at_6 : decode cX9_at 6 = .ok (.iload_n 1, 1) := dk_27 (dk_at dksX9_at_0 6 rfl rfl)
theorem dX9_at_7 : decode cX9_at 7 = .ok (.imul, 1) := dk_104 (dk_at dksX9_at_0 7 rfl rfl)
theorem dX9_at_8 : decode cX9_at 8 = .ok (.iadd, 1) := dk_96 (dk_at dksX9_at_0 8 rfl rfl)
theorem dX9_at_9 : decode cX9_at 9 = .ok (.iload_n 2, 1) := dk_28 (dk_at dksX9_at_0 9 rfl rfl)
theorem dX9_at_10 : decode cX9_at 10 = .ok (.iadd, 1) := dk_96 (dk_at dksX9_at_0 10 rfl rfl)
theorem dX9_at_11 : decode cX9_at 11 = .ok (.invokevirtual 174, 3) := dk_182 0 174 (dk_at dksX9_at_0 11 rfl rfl)
theorem dX9_at_14 : decode cX9_at 14 = .ok (.ireturn, 1) := dk_172 (dk_at dksX9_at_0 14 rfl rfl)
abbrev cX9_intervalOf : ByteArray := prog_17_method_64_code
def yX9_intervalOf : MethodName := ⟨RX9, "intervalOf", "(II)I"⟩
def dkwX9_intervalOf_0 : List UInt8 := [28, 42, 27, 8, 182, 1, 0, 7, 108, 100, 172]
abbrev dktX9_intervalOf_0 : List UInt8 := dkwX9_intervalOf_0 ++ []
theorem dksX9_intervalOf_0 : cX9_intervalOf.data.toList.drop 0 = dktX9_intervalOf_0 := by decide +kernel
theorem dX9_intervalOf_0 : decode cX9_intervalOf 0 = .ok (.iload_n 2, 1) := dk_28 (dk_at dksX9_intervalOf_0 0 rfl rfl)
theorem dX9_intervalOf_1 : decode cX9_intervalOf 1 = .ok (.aload_n 0, 1) := dk_42 (dk_at dksX9_intervalOf_0 1 rfl rfl)
theorem dX9_intervalOf_2 : decode cX9_intervalOf 2 = .ok (.iload_n 1, 1) := dk_27 (dk_at dksX9_intervalOf_0 2 rfl rfl)
theorem dX9_intervalOf_3 : decode cX9_intervalOf 3 = .ok (.iconst 5, 1) := dk_8 (dk_at dksX9_intervalOf_0 3 rfl rfl)
theorem dX9_intervalOf_4 : decode cX9_intervalOf 4 = .ok (.invokevirtual 256, 3) := dk_182 1 0 (dk_at dksX9_intervalOf_0 4 rfl rfl)
theorem dX9_intervalOf_7 : decode cX9_intervalOf 7 = .ok (.iconst 4, 1) := dk_7 (dk_at dksX9_intervalOf_0 7 rfl rfl)
theorem dX9_intervalOf_8 : decode cX9_intervalOf 8 = .ok (.idiv, 1) := dk_108 (dk_at dksX9_intervalOf_0 8 rfl rfl)
theorem dX9_intervalOf_9 : decode cX9_intervalOf 9 = .ok (.isub, 1) := dk_100 (dk_at dksX9_intervalOf_0 9 rfl rfl)
theorem dX9_intervalOf_10 : decode cX9_intervalOf 10 = .ok (.ireturn, 1) := dk_172 (dk_at dksX9_intervalOf_0 10 rfl rfl)
abbrev cX9_sell : ByteArray := prog_17_method_81_code
def yX9_sell : MethodName := ⟨RX9, "sell", "(III)I"⟩
def dkwX9_sell_3 : List UInt8 := [29, 182, 0, 191, 42, 27, 182, 1, 52, 172]
abbrev dktX9_sell_3 : List UInt8 := dkwX9_sell_3 ++ []
def dkwX9_sell_2 : List UInt8 := [153, 0, 6, 16, 254, 172, 42, 182, 1, 43, 42, 27, 16, 7, 28, 4, 96, 182, 0, 191, 42, 27, 16, 8]
abbrev dktX9_sell_2 : List UInt8 := dkwX9_sell_2 ++ dktX9_sell_3
def dkwX9_sell_1 : List UInt8 := [28, 5, 160, 0, 7, 2, 167, 0, 5, 18, 87, 184, 0, 124, 154, 0, 5, 2, 172, 42, 27, 182, 1, 49]
abbrev dktX9_sell_1 : List UInt8 := dkwX9_sell_1 ++ dktX9_sell_2
def dkwX9_sell_0 : List UInt8 := [42, 3, 181, 0, 49, 42, 27, 182, 1, 46, 153, 0, 31, 28, 3, 5, 184, 0, 124, 153, 0, 22, 29, 2]
abbrev dktX9_sell_0 : List UInt8 := dkwX9_sell_0 ++ dktX9_sell_1
theorem dksX9_sell_0 : cX9_sell.data.toList.drop 0 = dktX9_sell_0 := by decide +kernel
theorem dksX9_sell_1 : cX9_sell.data.toList.drop 24 = dktX9_sell_1 := dk_seg dksX9_sell_0 24 rfl rfl
theorem dksX9_sell_2 : cX9_sell.data.toList.drop 48 = dktX9_sell_2 := dk_seg dksX9_sell_1 24 rfl rfl
theorem dksX9_sell_3 : cX9_sell.data.toList.drop 72 = dktX9_sell_3 := dk_seg dksX9_sell_2 24 rfl rfl
theorem dX9_sell_0 : decode cX9_sell 0 = .ok (.aload_n 0, 1) := dk_42 (dk_at dksX9_sell_0 0 rfl rfl)
theorem dX9_sell_1 : decode cX9_sell 1 = .ok (.iconst 0, 1) := dk_3 (dk_at dksX9_sell_0 1 rfl rfl)
theorem dX9_sell_2 : decode cX9_sell 2 = .ok (.putfield 49, 3) := dk_181 0 49 (dk_at dksX9_sell_0 2 rfl rfl)
theorem dX9_sell_5 : decode cX9_sell 5 = .ok (.aload_n 0, 1) := dk_42 (dk_at dksX9_sell_0 5 rfl rfl)
theorem dX9_sell_6 : decode cX9_sell 6 = .ok (.iload_n 1, 1) := dk_27 (dk_at dksX9_sell_0 6 rfl rfl)
theorem dX9_sell_7 : decode cX9_sell 7 = .ok (.invokevirtual 302, 3) := dk_182 1 46 (dk_at dksX9_sell_0 7 rfl rfl)
theorem dX9_sell_10 : decode cX9_sell 10 = .ok (.ifCond .eq 31, 3) := dk_153 0 31 (dk_at dksX9_sell_0 10 rfl rfl)
theorem dX9_sell_13 : decode cX9_sell 13 = .ok (.iload_n 2, 1) := dk_28 (dk_at dksX9_sell_0 13 rfl rfl)
theorem dX9_sell_14 : decode cX9_sell 14 = .ok (.iconst 0, 1) := dk_3 (dk_at dksX9_sell_0 14 rfl rfl)
theorem dX9_sell_15 : decode cX9_sell 15 = .ok (.iconst 2, 1) := dk_5 (dk_at dksX9_sell_0 15 rfl rfl)
theorem dX9_sell_16 : decode cX9_sell 16 = .ok (.invokestatic 124, 3) := dk_184 0 124 (dk_at dksX9_sell_0 16 rfl rfl)
theorem dX9_sell_19 : decode cX9_sell 19 = .ok (.ifCond .eq 22, 3) := dk_153 0 22 (dk_at dksX9_sell_0 19 rfl rfl)
theorem dX9_sell_22 : decode cX9_sell 22 = .ok (.iload_n 3, 1) := dk_29 (dk_at dksX9_sell_0 22 rfl rfl)
theorem dX9_sell_23 : decode cX9_sell 23 = .ok (.iconst (-1), 1) := dk_2 (dk_at dksX9_sell_0 23 rfl rfl)
theorem dX9_sell_24 : decode cX9_sell 24 = .ok (.iload_n 2, 1) := dk_28 (dk_at dksX9_sell_1 0 rfl rfl)
theorem dX9_sell_25 : decode cX9_sell 25 = .ok (.iconst 2, 1) := dk_5 (dk_at dksX9_sell_1 1 rfl rfl)
theorem dX9_sell_26 : decode cX9_sell 26 = .ok (.if_icmp .ne 7, 3) := dk_160 0 7 (dk_at dksX9_sell_1 2 rfl rfl)
theorem dX9_sell_29 : decode cX9_sell 29 = .ok (.iconst (-1), 1) := dk_2 (dk_at dksX9_sell_1 5 rfl rfl)
theorem dX9_sell_30 : decode cX9_sell 30 = .ok (.goto 5, 3) := dk_167 0 5 (dk_at dksX9_sell_1 6 rfl rfl)
theorem dX9_sell_33 : decode cX9_sell 33 = .ok (.ldc 87, 2) := dk_18 87 (dk_at dksX9_sell_1 9 rfl rfl)
theorem dX9_sell_35 : decode cX9_sell 35 = .ok (.invokestatic 124, 3) := dk_184 0 124 (dk_at dksX9_sell_1 11 rfl rfl)
theorem dX9_sell_38 : decode cX9_sell 38 = .ok (.ifCond .ne 5, 3) := dk_154 0 5 (dk_at dksX9_sell_1 14 rfl rfl)
theorem dX9_sell_41 : decode cX9_sell 41 = .ok (.iconst (-1), 1) := dk_2 (dk_at dksX9_sell_1 17 rfl rfl)
theorem dX9_sell_42 : decode cX9_sell 42 = .ok (.ireturn, 1) := dk_172 (dk_at dksX9_sell_1 18 rfl rfl)
theorem dX9_sell_43 : decode cX9_sell 43 = .ok (.aload_n 0, 1) := dk_42 (dk_at dksX9_sell_1 19 rfl rfl)
theorem dX9_sell_44 : decode cX9_sell 44 = .ok (.iload_n 1, 1) := dk_27 (dk_at dksX9_sell_1 20 rfl rfl)
theorem dX9_sell_45 : decode cX9_sell 45 = .ok (.invokevirtual 305, 3) := dk_182 1 49 (dk_at dksX9_sell_1 21 rfl rfl)
theorem dX9_sell_48 : decode cX9_sell 48 = .ok (.ifCond .eq 6, 3) := dk_153 0 6 (dk_at dksX9_sell_2 0 rfl rfl)
theorem dX9_sell_51 : decode cX9_sell 51 = .ok (.bipush (-2), 2) := dk_16 254 (dk_at dksX9_sell_2 3 rfl rfl)
theorem dX9_sell_53 : decode cX9_sell 53 = .ok (.ireturn, 1) := dk_172 (dk_at dksX9_sell_2 5 rfl rfl)
theorem dX9_sell_54 : decode cX9_sell 54 = .ok (.aload_n 0, 1) := dk_42 (dk_at dksX9_sell_2 6 rfl rfl)
theorem dX9_sell_55 : decode cX9_sell 55 = .ok (.invokevirtual 299, 3) := dk_182 1 43 (dk_at dksX9_sell_2 7 rfl rfl)
theorem dX9_sell_58 : decode cX9_sell 58 = .ok (.aload_n 0, 1) := dk_42 (dk_at dksX9_sell_2 10 rfl rfl)
theorem dX9_sell_59 : decode cX9_sell 59 = .ok (.iload_n 1, 1) := dk_27 (dk_at dksX9_sell_2 11 rfl rfl)
theorem dX9_sell_60 : decode cX9_sell 60 = .ok (.bipush 7, 2) := dk_16 7 (dk_at dksX9_sell_2 12 rfl rfl)
theorem dX9_sell_62 : decode cX9_sell 62 = .ok (.iload_n 2, 1) := dk_28 (dk_at dksX9_sell_2 14 rfl rfl)
theorem dX9_sell_63 : decode cX9_sell 63 = .ok (.iconst 1, 1) := dk_4 (dk_at dksX9_sell_2 15 rfl rfl)
theorem dX9_sell_64 : decode cX9_sell 64 = .ok (.iadd, 1) := dk_96 (dk_at dksX9_sell_2 16 rfl rfl)
theorem dX9_sell_65 : decode cX9_sell 65 = .ok (.invokevirtual 191, 3) := dk_182 0 191 (dk_at dksX9_sell_2 17 rfl rfl)
theorem dX9_sell_68 : decode cX9_sell 68 = .ok (.aload_n 0, 1) := dk_42 (dk_at dksX9_sell_2 20 rfl rfl)
theorem dX9_sell_69 : decode cX9_sell 69 = .ok (.iload_n 1, 1) := dk_27 (dk_at dksX9_sell_2 21 rfl rfl)
theorem dX9_sell_70 : decode cX9_sell 70 = .ok (.bipush 8, 2) := dk_16 8 (dk_at dksX9_sell_2 22 rfl rfl)
theorem dX9_sell_72 : decode cX9_sell 72 = .ok (.iload_n 3, 1) := dk_29 (dk_at dksX9_sell_3 0 rfl rfl)
theorem dX9_sell_73 : decode cX9_sell 73 = .ok (.invokevirtual 191, 3) := dk_182 0 191 (dk_at dksX9_sell_3 1 rfl rfl)
theorem dX9_sell_76 : decode cX9_sell 76 = .ok (.aload_n 0, 1) := dk_42 (dk_at dksX9_sell_3 4 rfl rfl)
theorem dX9_sell_77 : decode cX9_sell 77 = .ok (.iload_n 1, 1) := dk_27 (dk_at dksX9_sell_3 5 rfl rfl)
theorem dX9_sell_78 : decode cX9_sell 78 = .ok (.invokevirtual 308, 3) := dk_182 1 52 (dk_at dksX9_sell_3 6 rfl rfl)
theorem dX9_sell_81 : decode cX9_sell 81 = .ok (.ireturn, 1) := dk_172 (dk_at dksX9_sell_3 9 rfl rfl)
abbrev cX9_behindOf : ByteArray := prog_17_method_80_code
def yX9_behindOf : MethodName := ⟨RX9, "behindOf", "(I)I"⟩
def dkwX9_behindOf_0 : List UInt8 := [42, 27, 7, 182, 1, 0, 4, 100, 42, 27, 42, 182, 0, 233, 182, 1, 14, 100, 172]
abbrev dktX9_behindOf_0 : List UInt8 := dkwX9_behindOf_0 ++ []
theorem dksX9_behindOf_0 : cX9_behindOf.data.toList.drop 0 = dktX9_behindOf_0 := by decide +kernel
theorem dX9_behindOf_0 : decode cX9_behindOf 0 = .ok (.aload_n 0, 1) := dk_42 (dk_at dksX9_behindOf_0 0 rfl rfl)
theorem dX9_behindOf_1 : decode cX9_behindOf 1 = .ok (.iload_n 1, 1) := dk_27 (dk_at dksX9_behindOf_0 1 rfl rfl)
theorem dX9_behindOf_2 : decode cX9_behindOf 2 = .ok (.iconst 4, 1) := dk_7 (dk_at dksX9_behindOf_0 2 rfl rfl)
theorem dX9_behindOf_3 : decode cX9_behindOf 3 = .ok (.invokevirtual 256, 3) := dk_182 1 0 (dk_at dksX9_behindOf_0 3 rfl rfl)
theorem dX9_behindOf_6 : decode cX9_behindOf 6 = .ok (.iconst 1, 1) := dk_4 (dk_at dksX9_behindOf_0 6 rfl rfl)
theorem dX9_behindOf_7 : decode cX9_behindOf 7 = .ok (.isub, 1) := dk_100 (dk_at dksX9_behindOf_0 7 rfl rfl)
theorem dX9_behindOf_8 : decode cX9_behindOf 8 = .ok (.aload_n 0, 1) := dk_42 (dk_at dksX9_behindOf_0 8 rfl rfl)
theorem dX9_behindOf_9 : decode cX9_behindOf 9 = .ok (.iload_n 1, 1) := dk_27 (dk_at dksX9_behindOf_0 9 rfl rfl)
theorem dX9_behindOf_10 : decode cX9_behindOf 10 = .ok (.aload_n 0, 1) := dk_42 (dk_at dksX9_behindOf_0 10 rfl rfl)
theorem dX9_behindOf_11 : decode cX9_behindOf 11 = .ok (.invokevirtual 233, 3) := dk_182 0 233 (dk_at dksX9_behindOf_0 11 rfl rfl)
theorem dX9_behindOf_14 : decode cX9_behindOf 14 = .ok (.invokevirtual 270, 3) := dk_182 1 14 (dk_at dksX9_behindOf_0 14 rfl rfl)
theorem dX9_behindOf_17 : decode cX9_behindOf 17 = .ok (.isub, 1) := dk_100 (dk_at dksX9_behindOf_0 17 rfl rfl)
theorem dX9_behindOf_18 : decode cX9_behindOf 18 = .ok (.ireturn, 1) := dk_172 (dk_at dksX9_behindOf_0 18 rfl rfl)
abbrev cX9_hand : ByteArray := prog_17_method_82_code
def yX9_hand : MethodName := ⟨RX9, "hand", "(II)I"⟩
def dkwX9_hand_2 : List UInt8 := [28, 182, 0, 191, 29, 172]
abbrev dktX9_hand_2 : List UInt8 := dkwX9_hand_2 ++ []
def dkwX9_hand_1 : List UInt8 := [27, 182, 1, 49, 153, 0, 6, 16, 254, 172, 42, 182, 1, 43, 42, 27, 4, 182, 1, 0, 62, 42, 27, 4]
abbrev dktX9_hand_1 : List UInt8 := dkwX9_hand_1 ++ dktX9_hand_2
def dkwX9_hand_0 : List UInt8 := [42, 3, 181, 0, 49, 42, 27, 182, 1, 46, 153, 0, 11, 42, 28, 182, 1, 40, 154, 0, 5, 2, 172, 42]
abbrev dktX9_hand_0 : List UInt8 := dkwX9_hand_0 ++ dktX9_hand_1
theorem dksX9_hand_0 : cX9_hand.data.toList.drop 0 = dktX9_hand_0 := by decide +kernel
theorem dksX9_hand_1 : cX9_hand.data.toList.drop 24 = dktX9_hand_1 := dk_seg dksX9_hand_0 24 rfl rfl
theorem dksX9_hand_2 : cX9_hand.data.toList.drop 48 = dktX9_hand_2 := dk_seg dksX9_hand_1 24 rfl rfl
theorem dX9_hand_0 : decode cX9_hand 0 = .ok (.aload_n 0, 1) := dk_42 (dk_at dksX9_hand_0 0 rfl rfl)
theorem dX9_hand_1 : decode cX9_hand 1 = .ok (.iconst 0, 1) := dk_3 (dk_at dksX9_hand_0 1 rfl rfl)
theorem dX9_hand_2 : decode cX9_hand 2 = .ok (.putfield 49, 3) := dk_181 0 49 (dk_at dksX9_hand_0 2 rfl rfl)
theorem dX9_hand_5 : decode cX9_hand 5 = .ok (.aload_n 0, 1) := dk_42 (dk_at dksX9_hand_0 5 rfl rfl)
theorem dX9_hand_6 : decode cX9_hand 6 = .ok (.iload_n 1, 1) := dk_27 (dk_at dksX9_hand_0 6 rfl rfl)
theorem dX9_hand_7 : decode cX9_hand 7 = .ok (.invokevirtual 302, 3) := dk_182 1 46 (dk_at dksX9_hand_0 7 rfl rfl)
theorem dX9_hand_10 : decode cX9_hand 10 = .ok (.ifCond .eq 11, 3) := dk_153 0 11 (dk_at dksX9_hand_0 10 rfl rfl)
theorem dX9_hand_13 : decode cX9_hand 13 = .ok (.aload_n 0, 1) := dk_42 (dk_at dksX9_hand_0 13 rfl rfl)
theorem dX9_hand_14 : decode cX9_hand 14 = .ok (.iload_n 2, 1) := dk_28 (dk_at dksX9_hand_0 14 rfl rfl)
theorem dX9_hand_15 : decode cX9_hand 15 = .ok (.invokevirtual 296, 3) := dk_182 1 40 (dk_at dksX9_hand_0 15 rfl rfl)
theorem dX9_hand_18 : decode cX9_hand 18 = .ok (.ifCond .ne 5, 3) := dk_154 0 5 (dk_at dksX9_hand_0 18 rfl rfl)
theorem dX9_hand_21 : decode cX9_hand 21 = .ok (.iconst (-1), 1) := dk_2 (dk_at dksX9_hand_0 21 rfl rfl)
theorem dX9_hand_22 : decode cX9_hand 22 = .ok (.ireturn, 1) := dk_172 (dk_at dksX9_hand_0 22 rfl rfl)
theorem dX9_hand_23 : decode cX9_hand 23 = .ok (.aload_n 0, 1) := dk_42 (dk_at dksX9_hand_0 23 rfl rfl)
theorem dX9_hand_24 : decode cX9_hand 24 = .ok (.iload_n 1, 1) := dk_27 (dk_at dksX9_hand_1 0 rfl rfl)
theorem dX9_hand_25 : decode cX9_hand 25 = .ok (.invokevirtual 305, 3) := dk_182 1 49 (dk_at dksX9_hand_1 1 rfl rfl)
theorem dX9_hand_28 : decode cX9_hand 28 = .ok (.ifCond .eq 6, 3) := dk_153 0 6 (dk_at dksX9_hand_1 4 rfl rfl)
theorem dX9_hand_31 : decode cX9_hand 31 = .ok (.bipush (-2), 2) := dk_16 254 (dk_at dksX9_hand_1 7 rfl rfl)
theorem dX9_hand_33 : decode cX9_hand 33 = .ok (.ireturn, 1) := dk_172 (dk_at dksX9_hand_1 9 rfl rfl)
theorem dX9_hand_34 : decode cX9_hand 34 = .ok (.aload_n 0, 1) := dk_42 (dk_at dksX9_hand_1 10 rfl rfl)
theorem dX9_hand_35 : decode cX9_hand 35 = .ok (.invokevirtual 299, 3) := dk_182 1 43 (dk_at dksX9_hand_1 11 rfl rfl)
theorem dX9_hand_38 : decode cX9_hand 38 = .ok (.aload_n 0, 1) := dk_42 (dk_at dksX9_hand_1 14 rfl rfl)
theorem dX9_hand_39 : decode cX9_hand 39 = .ok (.iload_n 1, 1) := dk_27 (dk_at dksX9_hand_1 15 rfl rfl)
theorem dX9_hand_40 : decode cX9_hand 40 = .ok (.iconst 1, 1) := dk_4 (dk_at dksX9_hand_1 16 rfl rfl)
theorem dX9_hand_41 : decode cX9_hand 41 = .ok (.invokevirtual 256, 3) := dk_182 1 0 (dk_at dksX9_hand_1 17 rfl rfl)
theorem dX9_hand_44 : decode cX9_hand 44 = .ok (.istore_n 3, 1) := dk_62 (dk_at dksX9_hand_1 20 rfl rfl)
theorem dX9_hand_45 : decode cX9_hand 45 = .ok (.aload_n 0, 1) := dk_42 (dk_at dksX9_hand_1 21 rfl rfl)
theorem dX9_hand_46 : decode cX9_hand 46 = .ok (.iload_n 1, 1) := dk_27 (dk_at dksX9_hand_1 22 rfl rfl)
theorem dX9_hand_47 : decode cX9_hand 47 = .ok (.iconst 1, 1) := dk_4 (dk_at dksX9_hand_1 23 rfl rfl)
theorem dX9_hand_48 : decode cX9_hand 48 = .ok (.iload_n 2, 1) := dk_28 (dk_at dksX9_hand_2 0 rfl rfl)
theorem dX9_hand_49 : decode cX9_hand 49 = .ok (.invokevirtual 191, 3) := dk_182 0 191 (dk_at dksX9_hand_2 1 rfl rfl)
theorem dX9_hand_52 : decode cX9_hand 52 = .ok (.iload_n 3, 1) := dk_29 (dk_at dksX9_hand_2 4 rfl rfl)
theorem dX9_hand_53 : decode cX9_hand 53 = .ok (.ireturn, 1) := dk_172 (dk_at dksX9_hand_2 5 rfl rfl)
abbrev cX9_close : ByteArray := prog_17_method_83_code
def yX9_close : MethodName := ⟨RX9, "close", "(I)I"⟩
def dkwX9_close_2 : List UInt8 := [162, 0, 13, 42, 182, 1, 55, 132, 3, 1, 167, 255, 244, 42, 17, 7, 74, 182, 0, 174, 28, 100, 172]
abbrev dktX9_close_2 : List UInt8 := dkwX9_close_2 ++ []
def dkwX9_close_1 : List UInt8 := [16, 63, 164, 0, 6, 16, 254, 172, 42, 182, 1, 43, 42, 17, 7, 74, 182, 0, 174, 61, 3, 62, 29, 27]
abbrev dktX9_close_1 : List UInt8 := dkwX9_close_1 ++ dktX9_close_2
def dkwX9_close_0 : List UInt8 := [42, 3, 181, 0, 49, 27, 4, 16, 16, 184, 0, 124, 154, 0, 5, 2, 172, 42, 3, 182, 0, 174, 27, 96]
abbrev dktX9_close_0 : List UInt8 := dkwX9_close_0 ++ dktX9_close_1
theorem dksX9_close_0 : cX9_close.data.toList.drop 0 = dktX9_close_0 := by decide +kernel
theorem dksX9_close_1 : cX9_close.data.toList.drop 24 = dktX9_close_1 := dk_seg dksX9_close_0 24 rfl rfl
theorem dksX9_close_2 : cX9_close.data.toList.drop 48 = dktX9_close_2 := dk_seg dksX9_close_1 24 rfl rfl
theorem dX9_close_0 : decode cX9_close 0 = .ok (.aload_n 0, 1) := dk_42 (dk_at dksX9_close_0 0 rfl rfl)
theorem dX9_close_1 : decode cX9_close 1 = .ok (.iconst 0, 1) := dk_3 (dk_at dksX9_close_0 1 rfl rfl)
theorem dX9_close_2 : decode cX9_close 2 = .ok (.putfield 49, 3) := dk_181 0 49 (dk_at dksX9_close_0 2 rfl rfl)
theorem dX9_close_5 : decode cX9_close 5 = .ok (.iload_n 1, 1) := dk_27 (dk_at dksX9_close_0 5 rfl rfl)
theorem dX9_close_6 : decode cX9_close 6 = .ok (.iconst 1, 1) := dk_4 (dk_at dksX9_close_0 6 rfl rfl)
theorem dX9_close_7 : decode cX9_close 7 = .ok (.bipush 16, 2) := dk_16 16 (dk_at dksX9_close_0 7 rfl rfl)
theorem dX9_close_9 : decode cX9_close 9 = .ok (.invokestatic 124, 3) := dk_184 0 124 (dk_at dksX9_close_0 9 rfl rfl)
theorem dX9_close_12 : decode cX9_close 12 = .ok (.ifCond .ne 5, 3) := dk_154 0 5 (dk_at dksX9_close_0 12 rfl rfl)
theorem dX9_close_15 : decode cX9_close 15 = .ok (.iconst (-1), 1) := dk_2 (dk_at dksX9_close_0 15 rfl rfl)
theorem dX9_close_16 : decode cX9_close 16 = .ok (.ireturn, 1) := dk_172 (dk_at dksX9_close_0 16 rfl rfl)
theorem dX9_close_17 : decode cX9_close 17 = .ok (.aload_n 0, 1) := dk_42 (dk_at dksX9_close_0 17 rfl rfl)
theorem dX9_close_18 : decode cX9_close 18 = .ok (.iconst 0, 1) := dk_3 (dk_at dksX9_close_0 18 rfl rfl)
theorem dX9_close_19 : decode cX9_close 19 = .ok (.invokevirtual 174, 3) := dk_182 0 174 (dk_at dksX9_close_0 19 rfl rfl)
theorem dX9_close_22 : decode cX9_close 22 = .ok (.iload_n 1, 1) := dk_27 (dk_at dksX9_close_0 22 rfl rfl)
theorem dX9_close_23 : decode cX9_close 23 = .ok (.iadd, 1) := dk_96 (dk_at dksX9_close_0 23 rfl rfl)
theorem dX9_close_24 : decode cX9_close 24 = .ok (.bipush 63, 2) := dk_16 63 (dk_at dksX9_close_1 0 rfl rfl)
theorem dX9_close_26 : decode cX9_close 26 = .ok (.if_icmp .le 6, 3) := dk_164 0 6 (dk_at dksX9_close_1 2 rfl rfl)
theorem dX9_close_29 : decode cX9_close 29 = .ok (.bipush (-2), 2) := dk_16 254 (dk_at dksX9_close_1 5 rfl rfl)
theorem dX9_close_31 : decode cX9_close 31 = .ok (.ireturn, 1) := dk_172 (dk_at dksX9_close_1 7 rfl rfl)
theorem dX9_close_32 : decode cX9_close 32 = .ok (.aload_n 0, 1) := dk_42 (dk_at dksX9_close_1 8 rfl rfl)
theorem dX9_close_33 : decode cX9_close 33 = .ok (.invokevirtual 299, 3) := dk_182 1 43 (dk_at dksX9_close_1 9 rfl rfl)
theorem dX9_close_36 : decode cX9_close 36 = .ok (.aload_n 0, 1) := dk_42 (dk_at dksX9_close_1 12 rfl rfl)
theorem dX9_close_37 : decode cX9_close 37 = .ok (.sipush 1866, 3) := dk_17 7 74 (dk_at dksX9_close_1 13 rfl rfl)
theorem dX9_close_40 : decode cX9_close 40 = .ok (.invokevirtual 174, 3) := dk_182 0 174 (dk_at dksX9_close_1 16 rfl rfl)
theorem dX9_close_43 : decode cX9_close 43 = .ok (.istore_n 2, 1) := dk_61 (dk_at dksX9_close_1 19 rfl rfl)
theorem dX9_close_44 : decode cX9_close 44 = .ok (.iconst 0, 1) := dk_3 (dk_at dksX9_close_1 20 rfl rfl)
theorem dX9_close_45 : decode cX9_close 45 = .ok (.istore_n 3, 1) := dk_62 (dk_at dksX9_close_1 21 rfl rfl)
theorem dX9_close_46 : decode cX9_close 46 = .ok (.iload_n 3, 1) := dk_29 (dk_at dksX9_close_1 22 rfl rfl)
theorem dX9_close_47 : decode cX9_close 47 = .ok (.iload_n 1, 1) := dk_27 (dk_at dksX9_close_1 23 rfl rfl)
theorem dX9_close_48 : decode cX9_close 48 = .ok (.if_icmp .ge 13, 3) := dk_162 0 13 (dk_at dksX9_close_2 0 rfl rfl)
theorem dX9_close_51 : decode cX9_close 51 = .ok (.aload_n 0, 1) := dk_42 (dk_at dksX9_close_2 3 rfl rfl)
theorem dX9_close_52 : decode cX9_close 52 = .ok (.invokevirtual 311, 3) := dk_182 1 55 (dk_at dksX9_close_2 4 rfl rfl)
theorem dX9_close_55 : decode cX9_close 55 = .ok (.iinc 3 1, 3) := dk_132 3 1 (dk_at dksX9_close_2 7 rfl rfl)
theorem dX9_close_58 : decode cX9_close 58 = .ok (.goto (-12), 3) := dk_167 255 244 (dk_at dksX9_close_2 10 rfl rfl)
theorem dX9_close_61 : decode cX9_close 61 = .ok (.aload_n 0, 1) := dk_42 (dk_at dksX9_close_2 13 rfl rfl)
theorem dX9_close_62 : decode cX9_close 62 = .ok (.sipush 1866, 3) := dk_17 7 74 (dk_at dksX9_close_2 14 rfl rfl)
theorem dX9_close_65 : decode cX9_close 65 = .ok (.invokevirtual 174, 3) := dk_182 0 174 (dk_at dksX9_close_2 17 rfl rfl)
theorem dX9_close_68 : decode cX9_close 68 = .ok (.iload_n 2, 1) := dk_28 (dk_at dksX9_close_2 20 rfl rfl)
theorem dX9_close_69 : decode cX9_close 69 = .ok (.isub, 1) := dk_100 (dk_at dksX9_close_2 21 rfl rfl)
theorem dX9_close_70 : decode cX9_close 70 = .ok (.ireturn, 1) := dk_172 (dk_at dksX9_close_2 22 rfl rfl)
abbrev cX9_closesQuarter : ByteArray := prog_17_method_61_code
def yX9_closesQuarter : MethodName := ⟨RX9, "closesQuarter", "()V"⟩
def dkwX9_closesQuarter_6 : List UInt8 := [3, 27, 4, 96, 182, 0, 111, 42, 182, 0, 118, 177]
abbrev dktX9_closesQuarter_6 : List UInt8 := dkwX9_closesQuarter_6 ++ []
def dkwX9_closesQuarter_5 : List UInt8 := [182, 1, 0, 182, 0, 191, 132, 2, 1, 167, 255, 225, 27, 7, 112, 6, 160, 0, 7, 42, 182, 1, 2, 42]
abbrev dktX9_closesQuarter_5 : List UInt8 := dkwX9_closesQuarter_5 ++ dktX9_closesQuarter_6
def dkwX9_closesQuarter_4 : List UInt8 := [28, 42, 17, 7, 73, 182, 0, 174, 162, 0, 26, 42, 28, 16, 13, 27, 7, 112, 96, 42, 28, 5]
abbrev dktX9_closesQuarter_4 : List UInt8 := dkwX9_closesQuarter_4 ++ dktX9_closesQuarter_5
def dkwX9_closesQuarter_3 : List UInt8 := [96, 21, 4, 182, 0, 111, 42, 28, 3, 21, 4, 16, 254, 182, 0, 252, 132, 2, 1, 167, 255, 176, 3, 61]
abbrev dktX9_closesQuarter_3 : List UInt8 := dkwX9_closesQuarter_3 ++ dktX9_closesQuarter_4
def dkwX9_closesQuarter_2 : List UInt8 := [17, 5, 9, 16, 64, 28, 104, 96, 27, 96, 29, 182, 0, 111, 42, 17, 6, 9, 16, 64, 28, 104, 96, 27]
abbrev dktX9_closesQuarter_2 : List UInt8 := dkwX9_closesQuarter_2 ++ dktX9_closesQuarter_3
def dkwX9_closesQuarter_1 : List UInt8 := [182, 0, 115, 182, 0, 246, 62, 42, 29, 42, 180, 0, 32, 5, 46, 7, 108, 182, 0, 249, 54, 4, 42]
abbrev dktX9_closesQuarter_1 : List UInt8 := dkwX9_closesQuarter_1 ++ dktX9_closesQuarter_2
def dkwX9_closesQuarter_0 : List UInt8 := [42, 3, 182, 0, 174, 60, 3, 61, 28, 42, 180, 0, 94, 162, 0, 78, 42, 28, 27, 42, 28, 5]
abbrev dktX9_closesQuarter_0 : List UInt8 := dkwX9_closesQuarter_0 ++ dktX9_closesQuarter_1
theorem dksX9_closesQuarter_0 : cX9_closesQuarter.data.toList.drop 0 = dktX9_closesQuarter_0 := by decide +kernel
theorem dksX9_closesQuarter_1 : cX9_closesQuarter.data.toList.drop 22 = dktX9_closesQuarter_1 := dk_seg dksX9_closesQuarter_0 22 rfl rfl
theorem dksX9_closesQuarter_2 : cX9_closesQuarter.data.toList.drop 45 = dktX9_closesQuarter_2 := dk_seg dksX9_closesQuarter_1 23 rfl rfl
theorem dksX9_closesQuarter_3 : cX9_closesQuarter.data.toList.drop 69 = dktX9_closesQuarter_3 := dk_seg dksX9_closesQuarter_2 24 rfl rfl
theorem dksX9_closesQuarter_4 : cX9_closesQuarter.data.toList.drop 93 = dktX9_closesQuarter_4 := dk_seg dksX9_closesQuarter_3 24 rfl rfl
theorem dksX9_closesQuarter_5 : cX9_closesQuarter.data.toList.drop 115 = dktX9_closesQuarter_5 := dk_seg dksX9_closesQuarter_4 22 rfl rfl
theorem dksX9_closesQuarter_6 : cX9_closesQuarter.data.toList.drop 139 = dktX9_closesQuarter_6 := dk_seg dksX9_closesQuarter_5 24 rfl rfl
theorem dX9_closesQuarter_0 : decode cX9_closesQuarter 0 = .ok (.aload_n 0, 1) := dk_42 (dk_at dksX9_closesQuarter_0 0 rfl rfl)
theorem dX9_closesQuarter_1 : decode cX9_closesQuarter 1 = .ok (.iconst 0, 1) := dk_3 (dk_at dksX9_closesQuarter_0 1 rfl rfl)
theorem dX9_closesQuarter_2 : decode cX9_closesQuarter 2 = .ok (.invokevirtual 174, 3) := dk_182 0 174 (dk_at dksX9_closesQuarter_0 2 rfl rfl)
theorem dX9_closesQuarter_5 : decode cX9_closesQuarter 5 = .ok (.istore_n 1, 1) := dk_60 (dk_at dksX9_closesQuarter_0 5 rfl rfl)
theorem dX9_closesQuarter_6 : decode cX9_closesQuarter 6 = .ok (.iconst 0, 1) := dk_3 (dk_at dksX9_closesQuarter_0 6 rfl rfl)
theorem dX9_closesQuarter_7 : decode cX9_closesQuarter 7 = .ok (.istore_n 2, 1) := dk_61 (dk_at dksX9_closesQuarter_0 7 rfl rfl)
theorem dX9_closesQuarter_8 : decode cX9_closesQuarter 8 = .ok (.iload_n 2, 1) := dk_28 (dk_at dksX9_closesQuarter_0 8 rfl rfl)
theorem dX9_closesQuarter_9 : decode cX9_closesQuarter 9 = .ok (.aload_n 0, 1) := dk_42 (dk_at dksX9_closesQuarter_0 9 rfl rfl)
theorem dX9_closesQuarter_10 : decode cX9_closesQuarter 10 = .ok (.getfield 94, 3) := dk_180 0 94 (dk_at dksX9_closesQuarter_0 10 rfl rfl)
theorem dX9_closesQuarter_13 : decode cX9_closesQuarter 13 = .ok (.if_icmp .ge 78, 3) := dk_162 0 78 (dk_at dksX9_closesQuarter_0 13 rfl rfl)
theorem dX9_closesQuarter_16 : decode cX9_closesQuarter 16 = .ok (.aload_n 0, 1) := dk_42 (dk_at dksX9_closesQuarter_0 16 rfl rfl)
theorem dX9_closesQuarter_17 : decode cX9_closesQuarter 17 = .ok (.iload_n 2, 1) := dk_28 (dk_at dksX9_closesQuarter_0 17 rfl rfl)
theorem dX9_closesQuarter_18 : decode cX9_closesQuarter 18 = .ok (.iload_n 1, 1) := dk_27 (dk_at dksX9_closesQuarter_0 18 rfl rfl)
theorem dX9_closesQuarter_19 : decode cX9_closesQuarter 19 = .ok (.aload_n 0, 1) := dk_42 (dk_at dksX9_closesQuarter_0 19 rfl rfl)
theorem dX9_closesQuarter_20 : decode cX9_closesQuarter 20 = .ok (.iload_n 2, 1) := dk_28 (dk_at dksX9_closesQuarter_0 20 rfl rfl)
theorem dX9_closesQuarter_21 : decode cX9_closesQuarter 21 = .ok (.iconst 2, 1) := dk_5 (dk_at dksX9_closesQuarter_0 21 rfl rfl)
theorem dX9_closesQuarter_22 : decode cX9_closesQuarter 22 = .ok (.invokevirtual 115, 3) := dk_182 0 115 (dk_at dksX9_closesQuarter_1 0 rfl rfl)
theorem dX9_closesQuarter_25 : decode cX9_closesQuarter 25 = .ok (.invokevirtual 246, 3) := dk_182 0 246 (dk_at dksX9_closesQuarter_1 3 rfl rfl)
theorem dX9_closesQuarter_28 : decode cX9_closesQuarter 28 = .ok (.istore_n 3, 1) := dk_62 (dk_at dksX9_closesQuarter_1 6 rfl rfl)
theorem dX9_closesQuarter_29 : decode cX9_closesQuarter 29 = .ok (.aload_n 0, 1) := dk_42 (dk_at dksX9_closesQuarter_1 7 rfl rfl)
theorem dX9_closesQuarter_30 : decode cX9_closesQuarter 30 = .ok (.iload_n 3, 1) := dk_29 (dk_at dksX9_closesQuarter_1 8 rfl rfl)
theorem dX9_closesQuarter_31 : decode cX9_closesQuarter 31 = .ok (.aload_n 0, 1) := dk_42 (dk_at dksX9_closesQuarter_1 9 rfl rfl)
theorem dX9_closesQuarter_32 : decode cX9_closesQuarter 32 = .ok (.getfield 32, 3) := dk_180 0 32 (dk_at dksX9_closesQuarter_1 10 rfl rfl)
theorem dX9_closesQuarter_35 : decode cX9_closesQuarter 35 = .ok (.iconst 2, 1) := dk_5 (dk_at dksX9_closesQuarter_1 13 rfl rfl)
theorem dX9_closesQuarter_36 : decode cX9_closesQuarter 36 = .ok (.iaload, 1) := dk_46 (dk_at dksX9_closesQuarter_1 14 rfl rfl)
theorem dX9_closesQuarter_37 : decode cX9_closesQuarter 37 = .ok (.iconst 4, 1) := dk_7 (dk_at dksX9_closesQuarter_1 15 rfl rfl)
theorem dX9_closesQuarter_38 : decode cX9_closesQuarter 38 = .ok (.idiv, 1) := dk_108 (dk_at dksX9_closesQuarter_1 16 rfl rfl)
theorem dX9_closesQuarter_39 : decode cX9_closesQuarter 39 = .ok (.invokevirtual 249, 3) := dk_182 0 249 (dk_at dksX9_closesQuarter_1 17 rfl rfl)
theorem dX9_closesQuarter_42 : decode cX9_closesQuarter 42 = .ok (.istore 4, 2) := dk_54 4 (dk_at dksX9_closesQuarter_1 20 rfl rfl)
theorem dX9_closesQuarter_44 : decode cX9_closesQuarter 44 = .ok (.aload_n 0, 1) := dk_42 (dk_at dksX9_closesQuarter_1 22 rfl rfl)
theorem dX9_closesQuarter_45 : decode cX9_closesQuarter 45 = .ok (.sipush 1289, 3) := dk_17 5 9 (dk_at dksX9_closesQuarter_2 0 rfl rfl)
theorem dX9_closesQuarter_48 : decode cX9_closesQuarter 48 = .ok (.bipush 64, 2) := dk_16 64 (dk_at dksX9_closesQuarter_2 3 rfl rfl)
theorem dX9_closesQuarter_50 : decode cX9_closesQuarter 50 = .ok (.iload_n 2, 1) := dk_28 (dk_at dksX9_closesQuarter_2 5 rfl rfl)
theorem dX9_closesQuarter_51 : decode cX9_closesQuarter 51 = .ok (.imul, 1) := dk_104 (dk_at dksX9_closesQuarter_2 6 rfl rfl)
theorem dX9_closesQuarter_52 : decode cX9_closesQuarter 52 = .ok (.iadd, 1) := dk_96 (dk_at dksX9_closesQuarter_2 7 rfl rfl)
theorem dX9_closesQuarter_53 : decode cX9_closesQuarter 53 = .ok (.iload_n 1, 1) := dk_27 (dk_at dksX9_closesQuarter_2 8 rfl rfl)
theorem dX9_closesQuarter_54 : decode cX9_closesQuarter 54 = .ok (.iadd, 1) := dk_96 (dk_at dksX9_closesQuarter_2 9 rfl rfl)
theorem dX9_closesQuarter_55 : decode cX9_closesQuarter 55 = .ok (.iload_n 3, 1) := dk_29 (dk_at dksX9_closesQuarter_2 10 rfl rfl)
theorem dX9_closesQuarter_56 : decode cX9_closesQuarter 56 = .ok (.invokevirtual 111, 3) := dk_182 0 111 (dk_at dksX9_closesQuarter_2 11 rfl rfl)
theorem dX9_closesQuarter_59 : decode cX9_closesQuarter 59 = .ok (.aload_n 0, 1) := dk_42 (dk_at dksX9_closesQuarter_2 14 rfl rfl)
theorem dX9_closesQuarter_60 : decode cX9_closesQuarter 60 = .ok (.sipush 1545, 3) := dk_17 6 9 (dk_at dksX9_closesQuarter_2 15 rfl rfl)
theorem dX9_closesQuarter_63 : decode cX9_closesQuarter 63 = .ok (.bipush 64, 2) := dk_16 64 (dk_at dksX9_closesQuarter_2 18 rfl rfl)
theorem dX9_closesQuarter_65 : decode cX9_closesQuarter 65 = .ok (.iload_n 2, 1) := dk_28 (dk_at dksX9_closesQuarter_2 20 rfl rfl)
theorem dX9_closesQuarter_66 : decode cX9_closesQuarter 66 = .ok (.imul, 1) := dk_104 (dk_at dksX9_closesQuarter_2 21 rfl rfl)
theorem dX9_closesQuarter_67 : decode cX9_closesQuarter 67 = .ok (.iadd, 1) := dk_96 (dk_at dksX9_closesQuarter_2 22 rfl rfl)
theorem dX9_closesQuarter_68 : decode cX9_closesQuarter 68 = .ok (.iload_n 1, 1) := dk_27 (dk_at dksX9_closesQuarter_2 23 rfl rfl)
theorem dX9_closesQuarter_69 : decode cX9_closesQuarter 69 = .ok (.iadd, 1) := dk_96 (dk_at dksX9_closesQuarter_3 0 rfl rfl)
theorem dX9_closesQuarter_70 : decode cX9_closesQuarter 70 = .ok (.iload 4, 2) := dk_21 4 (dk_at dksX9_closesQuarter_3 1 rfl rfl)
theorem dX9_closesQuarter_72 : decode cX9_closesQuarter 72 = .ok (.invokevirtual 111, 3) := dk_182 0 111 (dk_at dksX9_closesQuarter_3 3 rfl rfl)
theorem dX9_closesQuarter_75 : decode cX9_closesQuarter 75 = .ok (.aload_n 0, 1) := dk_42 (dk_at dksX9_closesQuarter_3 6 rfl rfl)
theorem dX9_closesQuarter_76 : decode cX9_closesQuarter 76 = .ok (.iload_n 2, 1) := dk_28 (dk_at dksX9_closesQuarter_3 7 rfl rfl)
theorem dX9_closesQuarter_77 : decode cX9_closesQuarter 77 = .ok (.iconst 0, 1) := dk_3 (dk_at dksX9_closesQuarter_3 8 rfl rfl)
theorem dX9_closesQuarter_78 : decode cX9_closesQuarter 78 = .ok (.iload 4, 2) := dk_21 4 (dk_at dksX9_closesQuarter_3 9 rfl rfl)
theorem dX9_closesQuarter_80 : decode cX9_closesQuarter 80 = .ok (.bipush (-2), 2) := dk_16 254 (dk_at dksX9_closesQuarter_3 11 rfl rfl)
theorem dX9_closesQuarter_82 : decode cX9_closesQuarter 82 = .ok (.invokevirtual 252, 3) := dk_182 0 252 (dk_at dksX9_closesQuarter_3 13 rfl rfl)
theorem dX9_closesQuarter_85 : decode cX9_closesQuarter 85 = .ok (.iinc 2 1, 3) := dk_132 2 1 (dk_at dksX9_closesQuarter_3 16 rfl rfl)
theorem dX9_closesQuarter_88 : decode cX9_closesQuarter 88 = .ok (.goto (-80), 3) := dk_167 255 176 (dk_at dksX9_closesQuarter_3 19 rfl rfl)
theorem dX9_closesQuarter_91 : decode cX9_closesQuarter 91 = .ok (.iconst 0, 1) := dk_3 (dk_at dksX9_closesQuarter_3 22 rfl rfl)
theorem dX9_closesQuarter_92 : decode cX9_closesQuarter 92 = .ok (.istore_n 2, 1) := dk_61 (dk_at dksX9_closesQuarter_3 23 rfl rfl)
theorem dX9_closesQuarter_93 : decode cX9_closesQuarter 93 = .ok (.iload_n 2, 1) := dk_28 (dk_at dksX9_closesQuarter_4 0 rfl rfl)
theorem dX9_closesQuarter_94 : decode cX9_closesQuarter 94 = .ok (.aload_n 0, 1) := dk_42 (dk_at dksX9_closesQuarter_4 1 rfl rfl)
theorem dX9_closesQuarter_95 : decode cX9_closesQuarter 95 = .ok (.sipush 1865, 3) := dk_17 7 73 (dk_at dksX9_closesQuarter_4 2 rfl rfl)
theorem dX9_closesQuarter_98 : decode cX9_closesQuarter 98 = .ok (.invokevirtual 174, 3) := dk_182 0 174 (dk_at dksX9_closesQuarter_4 5 rfl rfl)
theorem dX9_closesQuarter_101 : decode cX9_closesQuarter 101 = .ok (.if_icmp .ge 26, 3) := dk_162 0 26 (dk_at dksX9_closesQuarter_4 8 rfl rfl)
theorem dX9_closesQuarter_104 : decode cX9_closesQuarter 104 = .ok (.aload_n 0, 1) := dk_42 (dk_at dksX9_closesQuarter_4 11 rfl rfl)
theorem dX9_closesQuarter_105 : decode cX9_closesQuarter 105 = .ok (.iload_n 2, 1) := dk_28 (dk_at dksX9_closesQuarter_4 12 rfl rfl)
theorem dX9_closesQuarter_106 : decode cX9_closesQuarter 106 = .ok (.bipush 13, 2) := dk_16 13 (dk_at dksX9_closesQuarter_4 13 rfl rfl)
theorem dX9_closesQuarter_108 : decode cX9_closesQuarter 108 = .ok (.iload_n 1, 1) := dk_27 (dk_at dksX9_closesQuarter_4 15 rfl rfl)
theorem dX9_closesQuarter_109 : decode cX9_closesQuarter 109 = .ok (.iconst 4, 1) := dk_7 (dk_at dksX9_closesQuarter_4 16 rfl rfl)
theorem dX9_closesQuarter_110 : decode cX9_closesQuarter 110 = .ok (.irem, 1) := dk_112 (dk_at dksX9_closesQuarter_4 17 rfl rfl)
theorem dX9_closesQuarter_111 : decode cX9_closesQuarter 111 = .ok (.iadd, 1) := dk_96 (dk_at dksX9_closesQuarter_4 18 rfl rfl)
theorem dX9_closesQuarter_112 : decode cX9_closesQuarter 112 = .ok (.aload_n 0, 1) := dk_42 (dk_at dksX9_closesQuarter_4 19 rfl rfl)
theorem dX9_closesQuarter_113 : decode cX9_closesQuarter 113 = .ok (.iload_n 2, 1) := dk_28 (dk_at dksX9_closesQuarter_4 20 rfl rfl)
theorem dX9_closesQuarter_114 : decode cX9_closesQuarter 114 = .ok (.iconst 2, 1) := dk_5 (dk_at dksX9_closesQuarter_4 21 rfl rfl)
theorem dX9_closesQuarter_115 : decode cX9_closesQuarter 115 = .ok (.invokevirtual 256, 3) := dk_182 1 0 (dk_at dksX9_closesQuarter_5 0 rfl rfl)
theorem dX9_closesQuarter_118 : decode cX9_closesQuarter 118 = .ok (.invokevirtual 191, 3) := dk_182 0 191 (dk_at dksX9_closesQuarter_5 3 rfl rfl)
theorem dX9_closesQuarter_121 : decode cX9_closesQuarter 121 = .ok (.iinc 2 1, 3) := dk_132 2 1 (dk_at dksX9_closesQuarter_5 6 rfl rfl)
theorem dX9_closesQuarter_124 : decode cX9_closesQuarter 124 = .ok (.goto (-31), 3) := dk_167 255 225 (dk_at dksX9_closesQuarter_5 9 rfl rfl)
theorem dX9_closesQuarter_127 : decode cX9_closesQuarter 127 = .ok (.iload_n 1, 1) := dk_27 (dk_at dksX9_closesQuarter_5 12 rfl rfl)
theorem dX9_closesQuarter_128 : decode cX9_closesQuarter 128 = .ok (.iconst 4, 1) := dk_7 (dk_at dksX9_closesQuarter_5 13 rfl rfl)
theorem dX9_closesQuarter_129 : decode cX9_closesQuarter 129 = .ok (.irem, 1) := dk_112 (dk_at dksX9_closesQuarter_5 14 rfl rfl)
theorem dX9_closesQuarter_130 : decode cX9_closesQuarter 130 = .ok (.iconst 3, 1) := dk_6 (dk_at dksX9_closesQuarter_5 15 rfl rfl)
theorem dX9_closesQuarter_131 : decode cX9_closesQuarter 131 = .ok (.if_icmp .ne 7, 3) := dk_160 0 7 (dk_at dksX9_closesQuarter_5 16 rfl rfl)
theorem dX9_closesQuarter_134 : decode cX9_closesQuarter 134 = .ok (.aload_n 0, 1) := dk_42 (dk_at dksX9_closesQuarter_5 19 rfl rfl)
theorem dX9_closesQuarter_135 : decode cX9_closesQuarter 135 = .ok (.invokevirtual 258, 3) := dk_182 1 2 (dk_at dksX9_closesQuarter_5 20 rfl rfl)
theorem dX9_closesQuarter_138 : decode cX9_closesQuarter 138 = .ok (.aload_n 0, 1) := dk_42 (dk_at dksX9_closesQuarter_5 23 rfl rfl)
theorem dX9_closesQuarter_139 : decode cX9_closesQuarter 139 = .ok (.iconst 0, 1) := dk_3 (dk_at dksX9_closesQuarter_6 0 rfl rfl)
theorem dX9_closesQuarter_140 : decode cX9_closesQuarter 140 = .ok (.iload_n 1, 1) := dk_27 (dk_at dksX9_closesQuarter_6 1 rfl rfl)
theorem dX9_closesQuarter_141 : decode cX9_closesQuarter 141 = .ok (.iconst 1, 1) := dk_4 (dk_at dksX9_closesQuarter_6 2 rfl rfl)
theorem dX9_closesQuarter_142 : decode cX9_closesQuarter 142 = .ok (.iadd, 1) := dk_96 (dk_at dksX9_closesQuarter_6 3 rfl rfl)
theorem dX9_closesQuarter_143 : decode cX9_closesQuarter 143 = .ok (.invokevirtual 111, 3) := dk_182 0 111 (dk_at dksX9_closesQuarter_6 4 rfl rfl)
theorem dX9_closesQuarter_146 : decode cX9_closesQuarter 146 = .ok (.aload_n 0, 1) := dk_42 (dk_at dksX9_closesQuarter_6 7 rfl rfl)
theorem dX9_closesQuarter_147 : decode cX9_closesQuarter 147 = .ok (.invokevirtual 118, 3) := dk_182 0 118 (dk_at dksX9_closesQuarter_6 8 rfl rfl)
theorem dX9_closesQuarter_150 : decode cX9_closesQuarter 150 = .ok (.return_, 1) := dk_177 (dk_at dksX9_closesQuarter_6 11 rfl rfl)
abbrev cX9_provisionalBy : ByteArray := prog_17_method_59_code
def yX9_provisionalBy : MethodName := ⟨RX9, "provisionalBy", "(III)I"⟩
def dkwX9_provisionalBy_3 : List UInt8 := [27, 182, 0, 243, 167, 0, 8, 42, 27, 182, 0, 237, 172]
abbrev dktX9_provisionalBy_3 : List UInt8 := dkwX9_provisionalBy_3 ++ []
def dkwX9_provisionalBy_2 : List UInt8 := [182, 0, 237, 172, 28, 7, 161, 0, 6, 21, 4, 172, 42, 27, 16, 6, 182, 0, 115, 4, 160, 0, 11, 42]
abbrev dktX9_provisionalBy_2 : List UInt8 := dkwX9_provisionalBy_2 ++ dktX9_provisionalBy_3
def dkwX9_provisionalBy_1 : List UInt8 := [100, 182, 0, 174, 167, 0, 4, 3, 54, 4, 42, 27, 28, 182, 0, 240, 29, 154, 0, 9, 42, 27]
abbrev dktX9_provisionalBy_1 : List UInt8 := dkwX9_provisionalBy_1 ++ dktX9_provisionalBy_2
def dkwX9_provisionalBy_0 : List UInt8 := [29, 4, 160, 0, 29, 28, 7, 161, 0, 24, 42, 17, 7, 9, 16, 16, 27, 104, 96, 28, 7, 108, 96, 4]
abbrev dktX9_provisionalBy_0 : List UInt8 := dkwX9_provisionalBy_0 ++ dktX9_provisionalBy_1
theorem dksX9_provisionalBy_0 : cX9_provisionalBy.data.toList.drop 0 = dktX9_provisionalBy_0 := by decide +kernel
theorem dksX9_provisionalBy_1 : cX9_provisionalBy.data.toList.drop 24 = dktX9_provisionalBy_1 := dk_seg dksX9_provisionalBy_0 24 rfl rfl
theorem dksX9_provisionalBy_2 : cX9_provisionalBy.data.toList.drop 46 = dktX9_provisionalBy_2 := dk_seg dksX9_provisionalBy_1 22 rfl rfl
theorem dksX9_provisionalBy_3 : cX9_provisionalBy.data.toList.drop 70 = dktX9_provisionalBy_3 := dk_seg dksX9_provisionalBy_2 24 rfl rfl
theorem dX9_provisionalBy_0 : decode cX9_provisionalBy 0 = .ok (.iload_n 3, 1) := dk_29 (dk_at dksX9_provisionalBy_0 0 rfl rfl)
theorem dX9_provisionalBy_1 : decode cX9_provisionalBy 1 = .ok (.iconst 1, 1) := dk_4 (dk_at dksX9_provisionalBy_0 1 rfl rfl)
theorem dX9_provisionalBy_2 : decode cX9_provisionalBy 2 = .ok (.if_icmp .ne 29, 3) := dk_160 0 29 (dk_at dksX9_provisionalBy_0 2 rfl rfl)
theorem dX9_provisionalBy_5 : decode cX9_provisionalBy 5 = .ok (.iload_n 2, 1) := dk_28 (dk_at dksX9_provisionalBy_0 5 rfl rfl)
theorem dX9_provisionalBy_6 : decode cX9_provisionalBy 6 = .ok (.iconst 4, 1) := dk_7 (dk_at dksX9_provisionalBy_0 6 rfl rfl)
theorem dX9_provisionalBy_7 : decode cX9_provisionalBy 7 = .ok (.if_icmp .lt 24, 3) := dk_161 0 24 (dk_at dksX9_provisionalBy_0 7 rfl rfl)
theorem dX9_provisionalBy_10 : decode cX9_provisionalBy 10 = .ok (.aload_n 0, 1) := dk_42 (dk_at dksX9_provisionalBy_0 10 rfl rfl)
theorem dX9_provisionalBy_11 : decode cX9_provisionalBy 11 = .ok (.sipush 1801, 3) := dk_17 7 9 (dk_at dksX9_provisionalBy_0 11 rfl rfl)
theorem dX9_provisionalBy_14 : decode cX9_provisionalBy 14 = .ok (.bipush 16, 2) := dk_16 16 (dk_at dksX9_provisionalBy_0 14 rfl rfl)
theorem dX9_provisionalBy_16 : decode cX9_provisionalBy 16 = .ok (.iload_n 1, 1) := dk_27 (dk_at dksX9_provisionalBy_0 16 rfl rfl)
theorem dX9_provisionalBy_17 : decode cX9_provisionalBy 17 = .ok (.imul, 1) := dk_104 (dk_at dksX9_provisionalBy_0 17 rfl rfl)
theorem dX9_provisionalBy_18 : decode cX9_provisionalBy 18 = .ok (.iadd, 1) := dk_96 (dk_at dksX9_provisionalBy_0 18 rfl rfl)
theorem dX9_provisionalBy_19 : decode cX9_provisionalBy 19 = .ok (.iload_n 2, 1) := dk_28 (dk_at dksX9_provisionalBy_0 19 rfl rfl)
theorem dX9_provisionalBy_20 : decode cX9_provisionalBy 20 = .ok (.iconst 4, 1) := dk_7 (dk_at dksX9_provisionalBy_0 20 rfl rfl)
theorem dX9_provisionalBy_21 : decode cX9_provisionalBy 21 = .ok (.idiv, 1) := dk_108 (dk_at dksX9_provisionalBy_0 21 rfl rfl)
theorem dX9_provisionalBy_22 : decode cX9_provisionalBy 22 = .ok (.iadd, 1) := dk_96 (dk_at dksX9_provisionalBy_0 22 rfl rfl)
theorem dX9_provisionalBy_23 : decode cX9_provisionalBy 23 = .ok (.iconst 1, 1) := dk_4 (dk_at dksX9_provisionalBy_0 23 rfl rfl)
theorem dX9_provisionalBy_24 : decode cX9_provisionalBy 24 = .ok (.isub, 1) := dk_100 (dk_at dksX9_provisionalBy_1 0 rfl rfl)
theorem dX9_provisionalBy_25 : decode cX9_provisionalBy 25 = .ok (.invokevirtual 174, 3) := dk_182 0 174 (dk_at dksX9_provisionalBy_1 1 rfl rfl)
theorem dX9_provisionalBy_28 : decode cX9_provisionalBy 28 = .ok (.goto 4, 3) := dk_167 0 4 (dk_at dksX9_provisionalBy_1 4 rfl rfl)
theorem dX9_provisionalBy_31 : decode cX9_provisionalBy 31 = .ok (.iconst 0, 1) := dk_3 (dk_at dksX9_provisionalBy_1 7 rfl rfl)
theorem dX9_provisionalBy_32 : decode cX9_provisionalBy 32 = .ok (.istore 4, 2) := dk_54 4 (dk_at dksX9_provisionalBy_1 8 rfl rfl)
theorem dX9_provisionalBy_34 : decode cX9_provisionalBy 34 = .ok (.aload_n 0, 1) := dk_42 (dk_at dksX9_provisionalBy_1 10 rfl rfl)
theorem dX9_provisionalBy_35 : decode cX9_provisionalBy 35 = .ok (.iload_n 1, 1) := dk_27 (dk_at dksX9_provisionalBy_1 11 rfl rfl)
theorem dX9_provisionalBy_36 : decode cX9_provisionalBy 36 = .ok (.iload_n 2, 1) := dk_28 (dk_at dksX9_provisionalBy_1 12 rfl rfl)
theorem dX9_provisionalBy_37 : decode cX9_provisionalBy 37 = .ok (.invokevirtual 240, 3) := dk_182 0 240 (dk_at dksX9_provisionalBy_1 13 rfl rfl)
theorem dX9_provisionalBy_40 : decode cX9_provisionalBy 40 = .ok (.iload_n 3, 1) := dk_29 (dk_at dksX9_provisionalBy_1 16 rfl rfl)
theorem dX9_provisionalBy_41 : decode cX9_provisionalBy 41 = .ok (.ifCond .ne 9, 3) := dk_154 0 9 (dk_at dksX9_provisionalBy_1 17 rfl rfl)
theorem dX9_provisionalBy_44 : decode cX9_provisionalBy 44 = .ok (.aload_n 0, 1) := dk_42 (dk_at dksX9_provisionalBy_1 20 rfl rfl)
theorem dX9_provisionalBy_45 : decode cX9_provisionalBy 45 = .ok (.iload_n 1, 1) := dk_27 (dk_at dksX9_provisionalBy_1 21 rfl rfl)
theorem dX9_provisionalBy_46 : decode cX9_provisionalBy 46 = .ok (.invokevirtual 237, 3) := dk_182 0 237 (dk_at dksX9_provisionalBy_2 0 rfl rfl)
theorem dX9_provisionalBy_49 : decode cX9_provisionalBy 49 = .ok (.ireturn, 1) := dk_172 (dk_at dksX9_provisionalBy_2 3 rfl rfl)
theorem dX9_provisionalBy_50 : decode cX9_provisionalBy 50 = .ok (.iload_n 2, 1) := dk_28 (dk_at dksX9_provisionalBy_2 4 rfl rfl)
theorem dX9_provisionalBy_51 : decode cX9_provisionalBy 51 = .ok (.iconst 4, 1) := dk_7 (dk_at dksX9_provisionalBy_2 5 rfl rfl)
theorem dX9_provisionalBy_52 : decode cX9_provisionalBy 52 = .ok (.if_icmp .lt 6, 3) := dk_161 0 6 (dk_at dksX9_provisionalBy_2 6 rfl rfl)
theorem dX9_provisionalBy_55 : decode cX9_provisionalBy 55 = .ok (.iload 4, 2) := dk_21 4 (dk_at dksX9_provisionalBy_2 9 rfl rfl)
theorem dX9_provisionalBy_57 : decode cX9_provisionalBy 57 = .ok (.ireturn, 1) := dk_172 (dk_at dksX9_provisionalBy_2 11 rfl rfl)
theorem dX9_provisionalBy_58 : decode cX9_provisionalBy 58 = .ok (.aload_n 0, 1) := dk_42 (dk_at dksX9_provisionalBy_2 12 rfl rfl)
theorem dX9_provisionalBy_59 : decode cX9_provisionalBy 59 = .ok (.iload_n 1, 1) := dk_27 (dk_at dksX9_provisionalBy_2 13 rfl rfl)
theorem dX9_provisionalBy_60 : decode cX9_provisionalBy 60 = .ok (.bipush 6, 2) := dk_16 6 (dk_at dksX9_provisionalBy_2 14 rfl rfl)
theorem dX9_provisionalBy_62 : decode cX9_provisionalBy 62 = .ok (.invokevirtual 115, 3) := dk_182 0 115 (dk_at dksX9_provisionalBy_2 16 rfl rfl)
theorem dX9_provisionalBy_65 : decode cX9_provisionalBy 65 = .ok (.iconst 1, 1) := dk_4 (dk_at dksX9_provisionalBy_2 19 rfl rfl)
theorem dX9_provisionalBy_66 : decode cX9_provisionalBy 66 = .ok (.if_icmp .ne 11, 3) := dk_160 0 11 (dk_at dksX9_provisionalBy_2 20 rfl rfl)
theorem dX9_provisionalBy_69 : decode cX9_provisionalBy 69 = .ok (.aload_n 0, 1) := dk_42 (dk_at dksX9_provisionalBy_2 23 rfl rfl)
theorem dX9_provisionalBy_70 : decode cX9_provisionalBy 70 = .ok (.iload_n 1, 1) := dk_27 (dk_at dksX9_provisionalBy_3 0 rfl rfl)
theorem dX9_provisionalBy_71 : decode cX9_provisionalBy 71 = .ok (.invokevirtual 243, 3) := dk_182 0 243 (dk_at dksX9_provisionalBy_3 1 rfl rfl)
theorem dX9_provisionalBy_74 : decode cX9_provisionalBy 74 = .ok (.goto 8, 3) := dk_167 0 8 (dk_at dksX9_provisionalBy_3 4 rfl rfl)
theorem dX9_provisionalBy_77 : decode cX9_provisionalBy 77 = .ok (.aload_n 0, 1) := dk_42 (dk_at dksX9_provisionalBy_3 7 rfl rfl)
theorem dX9_provisionalBy_78 : decode cX9_provisionalBy 78 = .ok (.iload_n 1, 1) := dk_27 (dk_at dksX9_provisionalBy_3 8 rfl rfl)
theorem dX9_provisionalBy_79 : decode cX9_provisionalBy 79 = .ok (.invokevirtual 237, 3) := dk_182 0 237 (dk_at dksX9_provisionalBy_3 9 rfl rfl)
theorem dX9_provisionalBy_82 : decode cX9_provisionalBy 82 = .ok (.ireturn, 1) := dk_172 (dk_at dksX9_provisionalBy_3 12 rfl rfl)
abbrev cX9_layQuarter : ByteArray := prog_17_method_51_code
def yX9_layQuarter : MethodName := ⟨RX9, "layQuarter", "(II)V"⟩
def dkwX9_layQuarter_0 : List UInt8 := [42, 182, 0, 212, 42, 27, 28, 182, 0, 215, 42, 27, 182, 0, 218, 177]
abbrev dktX9_layQuarter_0 : List UInt8 := dkwX9_layQuarter_0 ++ []
theorem dksX9_layQuarter_0 : cX9_layQuarter.data.toList.drop 0 = dktX9_layQuarter_0 := by decide +kernel
theorem dX9_layQuarter_0 : decode cX9_layQuarter 0 = .ok (.aload_n 0, 1) := dk_42 (dk_at dksX9_layQuarter_0 0 rfl rfl)
theorem dX9_layQuarter_1 : decode cX9_layQuarter 1 = .ok (.invokevirtual 212, 3) := dk_182 0 212 (dk_at dksX9_layQuarter_0 1 rfl rfl)
theorem dX9_layQuarter_4 : decode cX9_layQuarter 4 = .ok (.aload_n 0, 1) := dk_42 (dk_at dksX9_layQuarter_0 4 rfl rfl)
theorem dX9_layQuarter_5 : decode cX9_layQuarter 5 = .ok (.iload_n 1, 1) := dk_27 (dk_at dksX9_layQuarter_0 5 rfl rfl)
theorem dX9_layQuarter_6 : decode cX9_layQuarter 6 = .ok (.iload_n 2, 1) := dk_28 (dk_at dksX9_layQuarter_0 6 rfl rfl)
theorem dX9_layQuarter_7 : decode cX9_layQuarter 7 = .ok (.invokevirtual 215, 3) := dk_182 0 215 (dk_at dksX9_layQuarter_0 7 rfl rfl)
theorem dX9_layQuarter_10 : decode cX9_layQuarter 10 = .ok (.aload_n 0, 1) := dk_42 (dk_at dksX9_layQuarter_0 10 rfl rfl)
theorem dX9_layQuarter_11 : decode cX9_layQuarter 11 = .ok (.iload_n 1, 1) := dk_27 (dk_at dksX9_layQuarter_0 11 rfl rfl)
theorem dX9_layQuarter_12 : decode cX9_layQuarter 12 = .ok (.invokevirtual 218, 3) := dk_182 0 218 (dk_at dksX9_layQuarter_0 12 rfl rfl)
theorem dX9_layQuarter_15 : decode cX9_layQuarter 15 = .ok (.return_, 1) := dk_177 (dk_at dksX9_layQuarter_0 15 rfl rfl)
abbrev cX9_layNone : ByteArray := prog_17_method_48_code
def yX9_layNone : MethodName := ⟨RX9, "layNone", "()V"⟩
def dkwX9_layNone_1 : List UInt8 := [181, 0, 205, 42, 9, 181, 0, 209, 177]
abbrev dktX9_layNone_1 : List UInt8 := dkwX9_layNone_1 ++ []
def dkwX9_layNone_0 : List UInt8 := [3, 60, 27, 8, 162, 0, 16, 42, 180, 0, 39, 27, 9, 80, 132, 1, 1, 167, 255, 241, 42, 9]
abbrev dktX9_layNone_0 : List UInt8 := dkwX9_layNone_0 ++ dktX9_layNone_1
theorem dksX9_layNone_0 : cX9_layNone.data.toList.drop 0 = dktX9_layNone_0 := by decide +kernel
theorem dksX9_layNone_1 : cX9_layNone.data.toList.drop 22 = dktX9_layNone_1 := dk_seg dksX9_layNone_0 22 rfl rfl
theorem dX9_layNone_0 : decode cX9_layNone 0 = .ok (.iconst 0, 1) := dk_3 (dk_at dksX9_layNone_0 0 rfl rfl)
theorem dX9_layNone_1 : decode cX9_layNone 1 = .ok (.istore_n 1, 1) := dk_60 (dk_at dksX9_layNone_0 1 rfl rfl)
theorem dX9_layNone_2 : decode cX9_layNone 2 = .ok (.iload_n 1, 1) := dk_27 (dk_at dksX9_layNone_0 2 rfl rfl)
theorem dX9_layNone_3 : decode cX9_layNone 3 = .ok (.iconst 5, 1) := dk_8 (dk_at dksX9_layNone_0 3 rfl rfl)
theorem dX9_layNone_4 : decode cX9_layNone 4 = .ok (.if_icmp .ge 16, 3) := dk_162 0 16 (dk_at dksX9_layNone_0 4 rfl rfl)
theorem dX9_layNone_7 : decode cX9_layNone 7 = .ok (.aload_n 0, 1) := dk_42 (dk_at dksX9_layNone_0 7 rfl rfl)
theorem dX9_layNone_8 : decode cX9_layNone 8 = .ok (.getfield 39, 3) := dk_180 0 39 (dk_at dksX9_layNone_0 8 rfl rfl)
theorem dX9_layNone_11 : decode cX9_layNone 11 = .ok (.iload_n 1, 1) := dk_27 (dk_at dksX9_layNone_0 11 rfl rfl)
theorem dX9_layNone_12 : decode cX9_layNone 12 = .ok (.lconst 0, 1) := dk_9 (dk_at dksX9_layNone_0 12 rfl rfl)
theorem dX9_layNone_13 : decode cX9_layNone 13 = .ok (.lastore, 1) := dk_80 (dk_at dksX9_layNone_0 13 rfl rfl)
theorem dX9_layNone_14 : decode cX9_layNone 14 = .ok (.iinc 1 1, 3) := dk_132 1 1 (dk_at dksX9_layNone_0 14 rfl rfl)
theorem dX9_layNone_17 : decode cX9_layNone 17 = .ok (.goto (-15), 3) := dk_167 255 241 (dk_at dksX9_layNone_0 17 rfl rfl)
theorem dX9_layNone_20 : decode cX9_layNone 20 = .ok (.aload_n 0, 1) := dk_42 (dk_at dksX9_layNone_0 20 rfl rfl)
theorem dX9_layNone_21 : decode cX9_layNone 21 = .ok (.lconst 0, 1) := dk_9 (dk_at dksX9_layNone_0 21 rfl rfl)
theorem dX9_layNone_22 : decode cX9_layNone 22 = .ok (.putfield 205, 3) := dk_181 0 205 (dk_at dksX9_layNone_1 0 rfl rfl)
theorem dX9_layNone_25 : decode cX9_layNone 25 = .ok (.aload_n 0, 1) := dk_42 (dk_at dksX9_layNone_1 3 rfl rfl)
theorem dX9_layNone_26 : decode cX9_layNone 26 = .ok (.lconst 0, 1) := dk_9 (dk_at dksX9_layNone_1 4 rfl rfl)
theorem dX9_layNone_27 : decode cX9_layNone 27 = .ok (.putfield 209, 3) := dk_181 0 209 (dk_at dksX9_layNone_1 5 rfl rfl)
theorem dX9_layNone_30 : decode cX9_layNone 30 = .ok (.return_, 1) := dk_177 (dk_at dksX9_layNone_1 8 rfl rfl)
abbrev cX9_addQuarter : ByteArray := prog_17_method_49_code
def yX9_addQuarter : MethodName := ⟨RX9, "addQuarter", "(II)V"⟩
def dkwX9_addQuarter_1 : List UInt8 := [182, 0, 174, 133, 97, 80, 132, 3, 1, 167, 255, 227, 177]
abbrev dktX9_addQuarter_1 : List UInt8 := dkwX9_addQuarter_1 ++ []
def dkwX9_addQuarter_0 : List UInt8 := [3, 62, 29, 8, 162, 0, 30, 42, 180, 0, 39, 29, 92, 47, 42, 42, 27, 28, 29, 182, 0, 181]
abbrev dktX9_addQuarter_0 : List UInt8 := dkwX9_addQuarter_0 ++ dktX9_addQuarter_1
theorem dksX9_addQuarter_0 : cX9_addQuarter.data.toList.drop 0 = dktX9_addQuarter_0 := by decide +kernel
theorem dksX9_addQuarter_1 : cX9_addQuarter.data.toList.drop 22 = dktX9_addQuarter_1 := dk_seg dksX9_addQuarter_0 22 rfl rfl
theorem dX9_addQuarter_0 : decode cX9_addQuarter 0 = .ok (.iconst 0, 1) := dk_3 (dk_at dksX9_addQuarter_0 0 rfl rfl)
theorem dX9_addQuarter_1 : decode cX9_addQuarter 1 = .ok (.istore_n 3, 1) := dk_62 (dk_at dksX9_addQuarter_0 1 rfl rfl)
theorem dX9_addQuarter_2 : decode cX9_addQuarter 2 = .ok (.iload_n 3, 1) := dk_29 (dk_at dksX9_addQuarter_0 2 rfl rfl)
theorem dX9_addQuarter_3 : decode cX9_addQuarter 3 = .ok (.iconst 5, 1) := dk_8 (dk_at dksX9_addQuarter_0 3 rfl rfl)
theorem dX9_addQuarter_4 : decode cX9_addQuarter 4 = .ok (.if_icmp .ge 30, 3) := dk_162 0 30 (dk_at dksX9_addQuarter_0 4 rfl rfl)
theorem dX9_addQuarter_7 : decode cX9_addQuarter 7 = .ok (.aload_n 0, 1) := dk_42 (dk_at dksX9_addQuarter_0 7 rfl rfl)
theorem dX9_addQuarter_8 : decode cX9_addQuarter 8 = .ok (.getfield 39, 3) := dk_180 0 39 (dk_at dksX9_addQuarter_0 8 rfl rfl)
theorem dX9_addQuarter_11 : decode cX9_addQuarter 11 = .ok (.iload_n 3, 1) := dk_29 (dk_at dksX9_addQuarter_0 11 rfl rfl)
theorem dX9_addQuarter_12 : decode cX9_addQuarter 12 = .ok (.dup2, 1) := dk_92 (dk_at dksX9_addQuarter_0 12 rfl rfl)
theorem dX9_addQuarter_13 : decode cX9_addQuarter 13 = .ok (.laload, 1) := dk_47 (dk_at dksX9_addQuarter_0 13 rfl rfl)
theorem dX9_addQuarter_14 : decode cX9_addQuarter 14 = .ok (.aload_n 0, 1) := dk_42 (dk_at dksX9_addQuarter_0 14 rfl rfl)
theorem dX9_addQuarter_15 : decode cX9_addQuarter 15 = .ok (.aload_n 0, 1) := dk_42 (dk_at dksX9_addQuarter_0 15 rfl rfl)
theorem dX9_addQuarter_16 : decode cX9_addQuarter 16 = .ok (.iload_n 1, 1) := dk_27 (dk_at dksX9_addQuarter_0 16 rfl rfl)
theorem dX9_addQuarter_17 : decode cX9_addQuarter 17 = .ok (.iload_n 2, 1) := dk_28 (dk_at dksX9_addQuarter_0 17 rfl rfl)
theorem dX9_addQuarter_18 : decode cX9_addQuarter 18 = .ok (.iload_n 3, 1) := dk_29 (dk_at dksX9_addQuarter_0 18 rfl rfl)
theorem dX9_addQuarter_19 : decode cX9_addQuarter 19 = .ok (.invokevirtual 181, 3) := dk_182 0 181 (dk_at dksX9_addQuarter_0 19 rfl rfl)
theorem dX9_addQuarter_22 : decode cX9_addQuarter 22 = .ok (.invokevirtual 174, 3) := dk_182 0 174 (dk_at dksX9_addQuarter_1 0 rfl rfl)
theorem dX9_addQuarter_25 : decode cX9_addQuarter 25 = .ok (.i2l, 1) := dk_133 (dk_at dksX9_addQuarter_1 3 rfl rfl)
theorem dX9_addQuarter_26 : decode cX9_addQuarter 26 = .ok (.ladd, 1) := dk_97 (dk_at dksX9_addQuarter_1 4 rfl rfl)
theorem dX9_addQuarter_27 : decode cX9_addQuarter 27 = .ok (.lastore, 1) := dk_80 (dk_at dksX9_addQuarter_1 5 rfl rfl)
theorem dX9_addQuarter_28 : decode cX9_addQuarter 28 = .ok (.iinc 3 1, 3) := dk_132 3 1 (dk_at dksX9_addQuarter_1 6 rfl rfl)
theorem dX9_addQuarter_31 : decode cX9_addQuarter 31 = .ok (.goto (-29), 3) := dk_167 255 227 (dk_at dksX9_addQuarter_1 9 rfl rfl)
theorem dX9_addQuarter_34 : decode cX9_addQuarter 34 = .ok (.return_, 1) := dk_177 (dk_at dksX9_addQuarter_1 12 rfl rfl)
abbrev cX9_addHeads : ByteArray := prog_17_method_50_code
def yX9_addHeads : MethodName := ⟨RX9, "addHeads", "(I)V"⟩
def dkwX9_addHeads_1 : List UInt8 := [180, 0, 209, 42, 17, 5, 1, 5, 27, 104, 96, 4, 96, 182, 0, 174, 133, 97, 181, 0, 209, 177]
abbrev dktX9_addHeads_1 : List UInt8 := dkwX9_addHeads_1 ++ []
def dkwX9_addHeads_0 : List UInt8 := [42, 89, 180, 0, 205, 42, 17, 5, 1, 5, 27, 104, 96, 182, 0, 174, 133, 97, 181, 0, 205, 42, 89]
abbrev dktX9_addHeads_0 : List UInt8 := dkwX9_addHeads_0 ++ dktX9_addHeads_1
theorem dksX9_addHeads_0 : cX9_addHeads.data.toList.drop 0 = dktX9_addHeads_0 := by decide +kernel
theorem dksX9_addHeads_1 : cX9_addHeads.data.toList.drop 23 = dktX9_addHeads_1 := dk_seg dksX9_addHeads_0 23 rfl rfl
theorem dX9_addHeads_0 : decode cX9_addHeads 0 = .ok (.aload_n 0, 1) := dk_42 (dk_at dksX9_addHeads_0 0 rfl rfl)
theorem dX9_addHeads_1 : decode cX9_addHeads 1 = .ok (.dup, 1) := dk_89 (dk_at dksX9_addHeads_0 1 rfl rfl)
theorem dX9_addHeads_2 : decode cX9_addHeads 2 = .ok (.getfield 205, 3) := dk_180 0 205 (dk_at dksX9_addHeads_0 2 rfl rfl)
theorem dX9_addHeads_5 : decode cX9_addHeads 5 = .ok (.aload_n 0, 1) := dk_42 (dk_at dksX9_addHeads_0 5 rfl rfl)
theorem dX9_addHeads_6 : decode cX9_addHeads 6 = .ok (.sipush 1281, 3) := dk_17 5 1 (dk_at dksX9_addHeads_0 6 rfl rfl)
theorem dX9_addHeads_9 : decode cX9_addHeads 9 = .ok (.iconst 2, 1) := dk_5 (dk_at dksX9_addHeads_0 9 rfl rfl)
theorem dX9_addHeads_10 : decode cX9_addHeads 10 = .ok (.iload_n 1, 1) := dk_27 (dk_at dksX9_addHeads_0 10 rfl rfl)
theorem dX9_addHeads_11 : decode cX9_addHeads 11 = .ok (.imul, 1) := dk_104 (dk_at dksX9_addHeads_0 11 rfl rfl)
theorem dX9_addHeads_12 : decode cX9_addHeads 12 = .ok (.iadd, 1) := dk_96 (dk_at dksX9_addHeads_0 12 rfl rfl)
theorem dX9_addHeads_13 : decode cX9_addHeads 13 = .ok (.invokevirtual 174, 3) := dk_182 0 174 (dk_at dksX9_addHeads_0 13 rfl rfl)
theorem dX9_addHeads_16 : decode cX9_addHeads 16 = .ok (.i2l, 1) := dk_133 (dk_at dksX9_addHeads_0 16 rfl rfl)
theorem dX9_addHeads_17 : decode cX9_addHeads 17 = .ok (.ladd, 1) := dk_97 (dk_at dksX9_addHeads_0 17 rfl rfl)
theorem dX9_addHeads_18 : decode cX9_addHeads 18 = .ok (.putfield 205, 3) := dk_181 0 205 (dk_at dksX9_addHeads_0 18 rfl rfl)
theorem dX9_addHeads_21 : decode cX9_addHeads 21 = .ok (.aload_n 0, 1) := dk_42 (dk_at dksX9_addHeads_0 21 rfl rfl)
theorem dX9_addHeads_22 : decode cX9_addHeads 22 = .ok (.dup, 1) := dk_89 (dk_at dksX9_addHeads_0 22 rfl rfl)
theorem dX9_addHeads_23 : decode cX9_addHeads 23 = .ok (.getfield 209, 3) := dk_180 0 209 (dk_at dksX9_addHeads_1 0 rfl rfl)
theorem dX9_addHeads_26 : decode cX9_addHeads 26 = .ok (.aload_n 0, 1) := dk_42 (dk_at dksX9_addHeads_1 3 rfl rfl)
theorem dX9_addHeads_27 : decode cX9_addHeads 27 = .ok (.sipush 1281, 3) := dk_17 5 1 (dk_at dksX9_addHeads_1 4 rfl rfl)
theorem dX9_addHeads_30 : decode cX9_addHeads 30 = .ok (.iconst 2, 1) := dk_5 (dk_at dksX9_addHeads_1 7 rfl rfl)
theorem dX9_addHeads_31 : decode cX9_addHeads 31 = .ok (.iload_n 1, 1) := dk_27 (dk_at dksX9_addHeads_1 8 rfl rfl)
theorem dX9_addHeads_32 : decode cX9_addHeads 32 = .ok (.imul, 1) := dk_104 (dk_at dksX9_addHeads_1 9 rfl rfl)
theorem dX9_addHeads_33 : decode cX9_addHeads 33 = .ok (.iadd, 1) := dk_96 (dk_at dksX9_addHeads_1 10 rfl rfl)
theorem dX9_addHeads_34 : decode cX9_addHeads 34 = .ok (.iconst 1, 1) := dk_4 (dk_at dksX9_addHeads_1 11 rfl rfl)
theorem dX9_addHeads_35 : decode cX9_addHeads 35 = .ok (.iadd, 1) := dk_96 (dk_at dksX9_addHeads_1 12 rfl rfl)
theorem dX9_addHeads_36 : decode cX9_addHeads 36 = .ok (.invokevirtual 174, 3) := dk_182 0 174 (dk_at dksX9_addHeads_1 13 rfl rfl)
theorem dX9_addHeads_39 : decode cX9_addHeads 39 = .ok (.i2l, 1) := dk_133 (dk_at dksX9_addHeads_1 16 rfl rfl)
theorem dX9_addHeads_40 : decode cX9_addHeads 40 = .ok (.ladd, 1) := dk_97 (dk_at dksX9_addHeads_1 17 rfl rfl)
theorem dX9_addHeads_41 : decode cX9_addHeads 41 = .ok (.putfield 209, 3) := dk_181 0 209 (dk_at dksX9_addHeads_1 18 rfl rfl)
theorem dX9_addHeads_44 : decode cX9_addHeads 44 = .ok (.return_, 1) := dk_177 (dk_at dksX9_addHeads_1 21 rfl rfl)
abbrev cX9_fraction : ByteArray := prog_17_method_54_code
def yX9_fraction : MethodName := ⟨RX9, "fraction", "(I)I"⟩
def dkwX9_fraction_0 : List UInt8 := [42, 42, 27, 4, 182, 0, 115, 42, 180, 0, 32, 3, 46, 42, 180, 0, 32, 4, 46, 182, 0, 222, 172]
abbrev dktX9_fraction_0 : List UInt8 := dkwX9_fraction_0 ++ []
theorem dksX9_fraction_0 : cX9_fraction.data.toList.drop 0 = dktX9_fraction_0 := by decide +kernel
theorem dX9_fraction_0 : decode cX9_fraction 0 = .ok (.aload_n 0, 1) := dk_42 (dk_at dksX9_fraction_0 0 rfl rfl)
theorem dX9_fraction_1 : decode cX9_fraction 1 = .ok (.aload_n 0, 1) := dk_42 (dk_at dksX9_fraction_0 1 rfl rfl)
theorem dX9_fraction_2 : decode cX9_fraction 2 = .ok (.iload_n 1, 1) := dk_27 (dk_at dksX9_fraction_0 2 rfl rfl)
theorem dX9_fraction_3 : decode cX9_fraction 3 = .ok (.iconst 1, 1) := dk_4 (dk_at dksX9_fraction_0 3 rfl rfl)
theorem dX9_fraction_4 : decode cX9_fraction 4 = .ok (.invokevirtual 115, 3) := dk_182 0 115 (dk_at dksX9_fraction_0 4 rfl rfl)
theorem dX9_fraction_7 : decode cX9_fraction 7 = .ok (.aload_n 0, 1) := dk_42 (dk_at dksX9_fraction_0 7 rfl rfl)
theorem dX9_fraction_8 : decode cX9_fraction 8 = .ok (.getfield 32, 3) := dk_180 0 32 (dk_at dksX9_fraction_0 8 rfl rfl)
theorem dX9_fraction_11 : decode cX9_fraction 11 = .ok (.iconst 0, 1) := dk_3 (dk_at dksX9_fraction_0 11 rfl rfl)
theorem dX9_fraction_12 : decode cX9_fraction 12 = .ok (.iaload, 1) := dk_46 (dk_at dksX9_fraction_0 12 rfl rfl)
theorem dX9_fraction_13 : decode cX9_fraction 13 = .ok (.aload_n 0, 1) := dk_42 (dk_at dksX9_fraction_0 13 rfl rfl)
theorem dX9_fraction_14 : decode cX9_fraction 14 = .ok (.getfield 32, 3) := dk_180 0 32 (dk_at dksX9_fraction_0 14 rfl rfl)
theorem dX9_fraction_17 : decode cX9_fraction 17 = .ok (.iconst 1, 1) := dk_4 (dk_at dksX9_fraction_0 17 rfl rfl)
theorem dX9_fraction_18 : decode cX9_fraction 18 = .ok (.iaload, 1) := dk_46 (dk_at dksX9_fraction_0 18 rfl rfl)
theorem dX9_fraction_19 : decode cX9_fraction 19 = .ok (.invokevirtual 222, 3) := dk_182 0 222 (dk_at dksX9_fraction_0 19 rfl rfl)
theorem dX9_fraction_22 : decode cX9_fraction 22 = .ok (.ireturn, 1) := dk_172 (dk_at dksX9_fraction_0 22 rfl rfl)
abbrev cX9_fractionBy : ByteArray := prog_17_method_53_code
def yX9_fractionBy : MethodName := ⟨RX9, "fractionBy", "(III)I"⟩
def dkwX9_fractionBy_4 : List UInt8 := [22, 4, 105, 22, 6, 184, 0, 201, 136, 172]
abbrev dktX9_fractionBy_4 : List UInt8 := dkwX9_fractionBy_4 ++ []
def dkwX9_fractionBy_3 : List UInt8 := [167, 0, 7, 42, 180, 0, 209, 55, 6, 22, 6, 9, 148, 154, 0, 7, 29, 167, 0, 15, 28, 29, 133]
abbrev dktX9_fractionBy_3 : List UInt8 := dkwX9_fractionBy_3 ++ dktX9_fractionBy_4
def dkwX9_fractionBy_2 : List UInt8 := [47, 97, 167, 0, 28, 27, 4, 160, 0, 19, 42, 180, 0, 39, 5, 47, 42, 180, 0, 39, 6, 47, 97]
abbrev dktX9_fractionBy_2 : List UInt8 := dkwX9_fractionBy_2 ++ dktX9_fractionBy_3
def dkwX9_fractionBy_1 : List UInt8 := [167, 0, 7, 42, 180, 0, 205, 55, 4, 27, 154, 0, 19, 42, 180, 0, 39, 3, 47, 42, 180, 0, 39, 4]
abbrev dktX9_fractionBy_1 : List UInt8 := dkwX9_fractionBy_1 ++ dktX9_fractionBy_2
def dkwX9_fractionBy_0 : List UInt8 := [27, 154, 0, 12, 42, 180, 0, 39, 3, 47, 167, 0, 21, 27, 4, 160, 0, 12, 42, 180, 0, 39, 5, 47]
abbrev dktX9_fractionBy_0 : List UInt8 := dkwX9_fractionBy_0 ++ dktX9_fractionBy_1
theorem dksX9_fractionBy_0 : cX9_fractionBy.data.toList.drop 0 = dktX9_fractionBy_0 := by decide +kernel
theorem dksX9_fractionBy_1 : cX9_fractionBy.data.toList.drop 24 = dktX9_fractionBy_1 := dk_seg dksX9_fractionBy_0 24 rfl rfl
theorem dksX9_fractionBy_2 : cX9_fractionBy.data.toList.drop 48 = dktX9_fractionBy_2 := dk_seg dksX9_fractionBy_1 24 rfl rfl
theorem dksX9_fractionBy_3 : cX9_fractionBy.data.toList.drop 71 = dktX9_fractionBy_3 := dk_seg dksX9_fractionBy_2 23 rfl rfl
theorem dksX9_fractionBy_4 : cX9_fractionBy.data.toList.drop 94 = dktX9_fractionBy_4 := dk_seg dksX9_fractionBy_3 23 rfl rfl
theorem dX9_fractionBy_0 : decode cX9_fractionBy 0 = .ok (.iload_n 1, 1) := dk_27 (dk_at dksX9_fractionBy_0 0 rfl rfl)
theorem dX9_fractionBy_1 : decode cX9_fractionBy 1 = .ok (.ifCond .ne 12, 3) := dk_154 0 12 (dk_at dksX9_fractionBy_0 1 rfl rfl)
theorem dX9_fractionBy_4 : decode cX9_fractionBy 4 = .ok (.aload_n 0, 1) := dk_42 (dk_at dksX9_fractionBy_0 4 rfl rfl)
theorem dX9_fractionBy_5 : decode cX9_fractionBy 5 = .ok (.getfield 39, 3) := dk_180 0 39 (dk_at dksX9_fractionBy_0 5 rfl rfl)
theorem dX9_fractionBy_8 : decode cX9_fractionBy 8 = .ok (.iconst 0, 1) := dk_3 (dk_at dksX9_fractionBy_0 8 rfl rfl)
theorem dX9_fractionBy_9 : decode cX9_fractionBy 9 = .ok (.laload, 1) := dk_47 (dk_at dksX9_fractionBy_0 9 rfl rfl)
theorem dX9_fractionBy_10 : decode cX9_fractionBy 10 = .ok (.goto 21, 3) := dk_167 0 21 (dk_at dksX9_fractionBy_0 10 rfl rfl)
theorem dX9_fractionBy_13 : decode cX9_fractionBy 13 = .ok (.iload_n 1, 1) := dk_27 (dk_at dksX9_fractionBy_0 13 rfl rfl)
theorem dX9_fractionBy_14 : decode cX9_fractionBy 14 = .ok (.iconst 1, 1) := dk_4 (dk_at dksX9_fractionBy_0 14 rfl rfl)
theorem dX9_fractionBy_15 : decode cX9_fractionBy 15 = .ok (.if_icmp .ne 12, 3) := dk_160 0 12 (dk_at dksX9_fractionBy_0 15 rfl rfl)
theorem dX9_fractionBy_18 : decode cX9_fractionBy 18 = .ok (.aload_n 0, 1) := dk_42 (dk_at dksX9_fractionBy_0 18 rfl rfl)
theorem dX9_fractionBy_19 : decode cX9_fractionBy 19 = .ok (.getfield 39, 3) := dk_180 0 39 (dk_at dksX9_fractionBy_0 19 rfl rfl)
theorem dX9_fractionBy_22 : decode cX9_fractionBy 22 = .ok (.iconst 2, 1) := dk_5 (dk_at dksX9_fractionBy_0 22 rfl rfl)
theorem dX9_fractionBy_23 : decode cX9_fractionBy 23 = .ok (.laload, 1) := dk_47 (dk_at dksX9_fractionBy_0 23 rfl rfl)
theorem dX9_fractionBy_24 : decode cX9_fractionBy 24 = .ok (.goto 7, 3) := dk_167 0 7 (dk_at dksX9_fractionBy_1 0 rfl rfl)
theorem dX9_fractionBy_27 : decode cX9_fractionBy 27 = .ok (.aload_n 0, 1) := dk_42 (dk_at dksX9_fractionBy_1 3 rfl rfl)
theorem dX9_fractionBy_28 : decode cX9_fractionBy 28 = .ok (.getfield 205, 3) := dk_180 0 205 (dk_at dksX9_fractionBy_1 4 rfl rfl)
theorem dX9_fractionBy_31 : decode cX9_fractionBy 31 = .ok (.lstore 4, 2) := dk_55 4 (dk_at dksX9_fractionBy_1 7 rfl rfl)
theorem dX9_fractionBy_33 : decode cX9_fractionBy 33 = .ok (.iload_n 1, 1) := dk_27 (dk_at dksX9_fractionBy_1 9 rfl rfl)
theorem dX9_fractionBy_34 : decode cX9_fractionBy 34 = .ok (.ifCond .ne 19, 3) := dk_154 0 19 (dk_at dksX9_fractionBy_1 10 rfl rfl)
theorem dX9_fractionBy_37 : decode cX9_fractionBy 37 = .ok (.aload_n 0, 1) := dk_42 (dk_at dksX9_fractionBy_1 13 rfl rfl)
theorem dX9_fractionBy_38 : decode cX9_fractionBy 38 = .ok (.getfield 39, 3) := dk_180 0 39 (dk_at dksX9_fractionBy_1 14 rfl rfl)
theorem dX9_fractionBy_41 : decode cX9_fractionBy 41 = .ok (.iconst 0, 1) := dk_3 (dk_at dksX9_fractionBy_1 17 rfl rfl)
theorem dX9_fractionBy_42 : decode cX9_fractionBy 42 = .ok (.laload, 1) := dk_47 (dk_at dksX9_fractionBy_1 18 rfl rfl)
theorem dX9_fractionBy_43 : decode cX9_fractionBy 43 = .ok (.aload_n 0, 1) := dk_42 (dk_at dksX9_fractionBy_1 19 rfl rfl)
theorem dX9_fractionBy_44 : decode cX9_fractionBy 44 = .ok (.getfield 39, 3) := dk_180 0 39 (dk_at dksX9_fractionBy_1 20 rfl rfl)
theorem dX9_fractionBy_47 : decode cX9_fractionBy 47 = .ok (.iconst 1, 1) := dk_4 (dk_at dksX9_fractionBy_1 23 rfl rfl)
theorem dX9_fractionBy_48 : decode cX9_fractionBy 48 = .ok (.laload, 1) := dk_47 (dk_at dksX9_fractionBy_2 0 rfl rfl)
theorem dX9_fractionBy_49 : decode cX9_fractionBy 49 = .ok (.ladd, 1) := dk_97 (dk_at dksX9_fractionBy_2 1 rfl rfl)
theorem dX9_fractionBy_50 : decode cX9_fractionBy 50 = .ok (.goto 28, 3) := dk_167 0 28 (dk_at dksX9_fractionBy_2 2 rfl rfl)
theorem dX9_fractionBy_53 : decode cX9_fractionBy 53 = .ok (.iload_n 1, 1) := dk_27 (dk_at dksX9_fractionBy_2 5 rfl rfl)
theorem dX9_fractionBy_54 : decode cX9_fractionBy 54 = .ok (.iconst 1, 1) := dk_4 (dk_at dksX9_fractionBy_2 6 rfl rfl)
theorem dX9_fractionBy_55 : decode cX9_fractionBy 55 = .ok (.if_icmp .ne 19, 3) := dk_160 0 19 (dk_at dksX9_fractionBy_2 7 rfl rfl)
theorem dX9_fractionBy_58 : decode cX9_fractionBy 58 = .ok (.aload_n 0, 1) := dk_42 (dk_at dksX9_fractionBy_2 10 rfl rfl)
theorem dX9_fractionBy_59 : decode cX9_fractionBy 59 = .ok (.getfield 39, 3) := dk_180 0 39 (dk_at dksX9_fractionBy_2 11 rfl rfl)
theorem dX9_fractionBy_62 : decode cX9_fractionBy 62 = .ok (.iconst 2, 1) := dk_5 (dk_at dksX9_fractionBy_2 14 rfl rfl)
theorem dX9_fractionBy_63 : decode cX9_fractionBy 63 = .ok (.laload, 1) := dk_47 (dk_at dksX9_fractionBy_2 15 rfl rfl)
theorem dX9_fractionBy_64 : decode cX9_fractionBy 64 = .ok (.aload_n 0, 1) := dk_42 (dk_at dksX9_fractionBy_2 16 rfl rfl)
theorem dX9_fractionBy_65 : decode cX9_fractionBy 65 = .ok (.getfield 39, 3) := dk_180 0 39 (dk_at dksX9_fractionBy_2 17 rfl rfl)
theorem dX9_fractionBy_68 : decode cX9_fractionBy 68 = .ok (.iconst 3, 1) := dk_6 (dk_at dksX9_fractionBy_2 20 rfl rfl)
theorem dX9_fractionBy_69 : decode cX9_fractionBy 69 = .ok (.laload, 1) := dk_47 (dk_at dksX9_fractionBy_2 21 rfl rfl)
theorem dX9_fractionBy_70 : decode cX9_fractionBy 70 = .ok (.ladd, 1) := dk_97 (dk_at dksX9_fractionBy_2 22 rfl rfl)
theorem dX9_fractionBy_71 : decode cX9_fractionBy 71 = .ok (.goto 7, 3) := dk_167 0 7 (dk_at dksX9_fractionBy_3 0 rfl rfl)
theorem dX9_fractionBy_74 : decode cX9_fractionBy 74 = .ok (.aload_n 0, 1) := dk_42 (dk_at dksX9_fractionBy_3 3 rfl rfl)
theorem dX9_fractionBy_75 : decode cX9_fractionBy 75 = .ok (.getfield 209, 3) := dk_180 0 209 (dk_at dksX9_fractionBy_3 4 rfl rfl)
theorem dX9_fractionBy_78 : decode cX9_fractionBy 78 = .ok (.lstore 6, 2) := dk_55 6 (dk_at dksX9_fractionBy_3 7 rfl rfl)
theorem dX9_fractionBy_80 : decode cX9_fractionBy 80 = .ok (.lload 6, 2) := dk_22 6 (dk_at dksX9_fractionBy_3 9 rfl rfl)
theorem dX9_fractionBy_82 : decode cX9_fractionBy 82 = .ok (.lconst 0, 1) := dk_9 (dk_at dksX9_fractionBy_3 11 rfl rfl)
theorem dX9_fractionBy_83 : decode cX9_fractionBy 83 = .ok (.lcmp, 1) := dk_148 (dk_at dksX9_fractionBy_3 12 rfl rfl)
theorem dX9_fractionBy_84 : decode cX9_fractionBy 84 = .ok (.ifCond .ne 7, 3) := dk_154 0 7 (dk_at dksX9_fractionBy_3 13 rfl rfl)
theorem dX9_fractionBy_87 : decode cX9_fractionBy 87 = .ok (.iload_n 3, 1) := dk_29 (dk_at dksX9_fractionBy_3 16 rfl rfl)
theorem dX9_fractionBy_88 : decode cX9_fractionBy 88 = .ok (.goto 15, 3) := dk_167 0 15 (dk_at dksX9_fractionBy_3 17 rfl rfl)
theorem dX9_fractionBy_91 : decode cX9_fractionBy 91 = .ok (.iload_n 2, 1) := dk_28 (dk_at dksX9_fractionBy_3 20 rfl rfl)
theorem dX9_fractionBy_92 : decode cX9_fractionBy 92 = .ok (.iload_n 3, 1) := dk_29 (dk_at dksX9_fractionBy_3 21 rfl rfl)
theorem dX9_fractionBy_93 : decode cX9_fractionBy 93 = .ok (.i2l, 1) := dk_133 (dk_at dksX9_fractionBy_3 22 rfl rfl)
theorem dX9_fractionBy_94 : decode cX9_fractionBy 94 = .ok (.lload 4, 2) := dk_22 4 (dk_at dksX9_fractionBy_4 0 rfl rfl)
theorem dX9_fractionBy_96 : decode cX9_fractionBy 96 = .ok (.lmul, 1) := dk_105 (dk_at dksX9_fractionBy_4 2 rfl rfl)
theorem dX9_fractionBy_97 : decode cX9_fractionBy 97 = .ok (.lload 6, 2) := dk_22 6 (dk_at dksX9_fractionBy_4 3 rfl rfl)
theorem dX9_fractionBy_99 : decode cX9_fractionBy 99 = .ok (.invokestatic 201, 3) := dk_184 0 201 (dk_at dksX9_fractionBy_4 5 rfl rfl)
theorem dX9_fractionBy_102 : decode cX9_fractionBy 102 = .ok (.l2i, 1) := dk_136 (dk_at dksX9_fractionBy_4 8 rfl rfl)
theorem dX9_fractionBy_103 : decode cX9_fractionBy 103 = .ok (.ireturn, 1) := dk_172 (dk_at dksX9_fractionBy_4 9 rfl rfl)
abbrev cX9_cutBy : ByteArray := prog_17_method_46_code
def yX9_cutBy : MethodName := ⟨RX9, "cutBy", "(IJJ)J"⟩
def dkwX9_cutBy_1 : List UInt8 := [167, 0, 18, 20, 0, 199, 31, 105, 33, 97, 20, 0, 199, 33, 105, 184, 0, 195, 173]
abbrev dktX9_cutBy_1 : List UInt8 := dkwX9_cutBy_1 ++ []
def dkwX9_cutBy_0 : List UInt8 := [26, 154, 0, 11, 31, 33, 184, 0, 195, 167, 0, 33, 26, 4, 160, 0, 13, 31, 117, 33, 184, 0, 195, 117]
abbrev dktX9_cutBy_0 : List UInt8 := dkwX9_cutBy_0 ++ dktX9_cutBy_1
theorem dksX9_cutBy_0 : cX9_cutBy.data.toList.drop 0 = dktX9_cutBy_0 := by decide +kernel
theorem dksX9_cutBy_1 : cX9_cutBy.data.toList.drop 24 = dktX9_cutBy_1 := dk_seg dksX9_cutBy_0 24 rfl rfl
theorem dX9_cutBy_0 : decode cX9_cutBy 0 = .ok (.iload_n 0, 1) := dk_26 (dk_at dksX9_cutBy_0 0 rfl rfl)
theorem dX9_cutBy_1 : decode cX9_cutBy 1 = .ok (.ifCond .ne 11, 3) := dk_154 0 11 (dk_at dksX9_cutBy_0 1 rfl rfl)
theorem dX9_cutBy_4 : decode cX9_cutBy 4 = .ok (.lload_n 1, 1) := dk_31 (dk_at dksX9_cutBy_0 4 rfl rfl)
theorem dX9_cutBy_5 : decode cX9_cutBy 5 = .ok (.lload_n 3, 1) := dk_33 (dk_at dksX9_cutBy_0 5 rfl rfl)
theorem dX9_cutBy_6 : decode cX9_cutBy 6 = .ok (.invokestatic 195, 3) := dk_184 0 195 (dk_at dksX9_cutBy_0 6 rfl rfl)
theorem dX9_cutBy_9 : decode cX9_cutBy 9 = .ok (.goto 33, 3) := dk_167 0 33 (dk_at dksX9_cutBy_0 9 rfl rfl)
theorem dX9_cutBy_12 : decode cX9_cutBy 12 = .ok (.iload_n 0, 1) := dk_26 (dk_at dksX9_cutBy_0 12 rfl rfl)
theorem dX9_cutBy_13 : decode cX9_cutBy 13 = .ok (.iconst 1, 1) := dk_4 (dk_at dksX9_cutBy_0 13 rfl rfl)
theorem dX9_cutBy_14 : decode cX9_cutBy 14 = .ok (.if_icmp .ne 13, 3) := dk_160 0 13 (dk_at dksX9_cutBy_0 14 rfl rfl)
theorem dX9_cutBy_17 : decode cX9_cutBy 17 = .ok (.lload_n 1, 1) := dk_31 (dk_at dksX9_cutBy_0 17 rfl rfl)
theorem dX9_cutBy_18 : decode cX9_cutBy 18 = .ok (.lneg, 1) := dk_117 (dk_at dksX9_cutBy_0 18 rfl rfl)
theorem dX9_cutBy_19 : decode cX9_cutBy 19 = .ok (.lload_n 3, 1) := dk_33 (dk_at dksX9_cutBy_0 19 rfl rfl)
theorem dX9_cutBy_20 : decode cX9_cutBy 20 = .ok (.invokestatic 195, 3) := dk_184 0 195 (dk_at dksX9_cutBy_0 20 rfl rfl)
theorem dX9_cutBy_23 : decode cX9_cutBy 23 = .ok (.lneg, 1) := dk_117 (dk_at dksX9_cutBy_0 23 rfl rfl)
theorem dX9_cutBy_24 : decode cX9_cutBy 24 = .ok (.goto 18, 3) := dk_167 0 18 (dk_at dksX9_cutBy_1 0 rfl rfl)
theorem dX9_cutBy_27 : decode cX9_cutBy 27 = .ok (.ldc2_w 199, 3) := dk_20 0 199 (dk_at dksX9_cutBy_1 3 rfl rfl)
theorem dX9_cutBy_30 : decode cX9_cutBy 30 = .ok (.lload_n 1, 1) := dk_31 (dk_at dksX9_cutBy_1 6 rfl rfl)
theorem dX9_cutBy_31 : decode cX9_cutBy 31 = .ok (.lmul, 1) := dk_105 (dk_at dksX9_cutBy_1 7 rfl rfl)
theorem dX9_cutBy_32 : decode cX9_cutBy 32 = .ok (.lload_n 3, 1) := dk_33 (dk_at dksX9_cutBy_1 8 rfl rfl)
theorem dX9_cutBy_33 : decode cX9_cutBy 33 = .ok (.ladd, 1) := dk_97 (dk_at dksX9_cutBy_1 9 rfl rfl)
theorem dX9_cutBy_34 : decode cX9_cutBy 34 = .ok (.ldc2_w 199, 3) := dk_20 0 199 (dk_at dksX9_cutBy_1 10 rfl rfl)
theorem dX9_cutBy_37 : decode cX9_cutBy 37 = .ok (.lload_n 3, 1) := dk_33 (dk_at dksX9_cutBy_1 13 rfl rfl)
theorem dX9_cutBy_38 : decode cX9_cutBy 38 = .ok (.lmul, 1) := dk_105 (dk_at dksX9_cutBy_1 14 rfl rfl)
theorem dX9_cutBy_39 : decode cX9_cutBy 39 = .ok (.invokestatic 195, 3) := dk_184 0 195 (dk_at dksX9_cutBy_1 15 rfl rfl)
theorem dX9_cutBy_42 : decode cX9_cutBy 42 = .ok (.lreturn, 1) := dk_173 (dk_at dksX9_cutBy_1 18 rfl rfl)
abbrev cX9_quotient : ByteArray := prog_17_method_45_code
def yX9_quotient : MethodName := ⟨RX9, "quotient", "(JJ)J"⟩
def dkwX9_quotient_0 : List UInt8 := [30, 32, 109, 55, 4, 30, 32, 113, 9, 148, 156, 0, 10, 22, 4, 10, 101, 167, 0, 5, 22, 4, 173]
abbrev dktX9_quotient_0 : List UInt8 := dkwX9_quotient_0 ++ []
theorem dksX9_quotient_0 : cX9_quotient.data.toList.drop 0 = dktX9_quotient_0 := by decide +kernel
theorem dX9_quotient_0 : decode cX9_quotient 0 = .ok (.lload_n 0, 1) := dk_30 (dk_at dksX9_quotient_0 0 rfl rfl)
theorem dX9_quotient_1 : decode cX9_quotient 1 = .ok (.lload_n 2, 1) := dk_32 (dk_at dksX9_quotient_0 1 rfl rfl)
theorem dX9_quotient_2 : decode cX9_quotient 2 = .ok (.ldiv, 1) := dk_109 (dk_at dksX9_quotient_0 2 rfl rfl)
theorem dX9_quotient_3 : decode cX9_quotient 3 = .ok (.lstore 4, 2) := dk_55 4 (dk_at dksX9_quotient_0 3 rfl rfl)
theorem dX9_quotient_5 : decode cX9_quotient 5 = .ok (.lload_n 0, 1) := dk_30 (dk_at dksX9_quotient_0 5 rfl rfl)
theorem dX9_quotient_6 : decode cX9_quotient 6 = .ok (.lload_n 2, 1) := dk_32 (dk_at dksX9_quotient_0 6 rfl rfl)
theorem dX9_quotient_7 : decode cX9_quotient 7 = .ok (.lrem, 1) := dk_113 (dk_at dksX9_quotient_0 7 rfl rfl)
theorem dX9_quotient_8 : decode cX9_quotient 8 = .ok (.lconst 0, 1) := dk_9 (dk_at dksX9_quotient_0 8 rfl rfl)
theorem dX9_quotient_9 : decode cX9_quotient 9 = .ok (.lcmp, 1) := dk_148 (dk_at dksX9_quotient_0 9 rfl rfl)
theorem dX9_quotient_10 : decode cX9_quotient 10 = .ok (.ifCond .ge 10, 3) := dk_156 0 10 (dk_at dksX9_quotient_0 10 rfl rfl)
theorem dX9_quotient_13 : decode cX9_quotient 13 = .ok (.lload 4, 2) := dk_22 4 (dk_at dksX9_quotient_0 13 rfl rfl)
theorem dX9_quotient_15 : decode cX9_quotient 15 = .ok (.lconst 1, 1) := dk_10 (dk_at dksX9_quotient_0 15 rfl rfl)
theorem dX9_quotient_16 : decode cX9_quotient 16 = .ok (.lsub, 1) := dk_101 (dk_at dksX9_quotient_0 16 rfl rfl)
theorem dX9_quotient_17 : decode cX9_quotient 17 = .ok (.goto 5, 3) := dk_167 0 5 (dk_at dksX9_quotient_0 17 rfl rfl)
theorem dX9_quotient_20 : decode cX9_quotient 20 = .ok (.lload 4, 2) := dk_22 4 (dk_at dksX9_quotient_0 20 rfl rfl)
theorem dX9_quotient_22 : decode cX9_quotient 22 = .ok (.lreturn, 1) := dk_173 (dk_at dksX9_quotient_0 22 rfl rfl)
abbrev cX9_firstOf : ByteArray := prog_17_method_58_code
def yX9_firstOf : MethodName := ⟨RX9, "firstOf", "(I)I"⟩
def dkwX9_firstOf_1 : List UInt8 := [167, 0, 9, 42, 180, 0, 32, 4, 46, 172]
abbrev dktX9_firstOf_1 : List UInt8 := dkwX9_firstOf_1 ++ []
def dkwX9_firstOf_0 : List UInt8 := [42, 27, 16, 7, 182, 0, 115, 42, 180, 0, 32, 4, 46, 162, 0, 13, 42, 27, 16, 7, 182, 0, 115]
abbrev dktX9_firstOf_0 : List UInt8 := dkwX9_firstOf_0 ++ dktX9_firstOf_1
theorem dksX9_firstOf_0 : cX9_firstOf.data.toList.drop 0 = dktX9_firstOf_0 := by decide +kernel
theorem dksX9_firstOf_1 : cX9_firstOf.data.toList.drop 23 = dktX9_firstOf_1 := dk_seg dksX9_firstOf_0 23 rfl rfl
theorem dX9_firstOf_0 : decode cX9_firstOf 0 = .ok (.aload_n 0, 1) := dk_42 (dk_at dksX9_firstOf_0 0 rfl rfl)
theorem dX9_firstOf_1 : decode cX9_firstOf 1 = .ok (.iload_n 1, 1) := dk_27 (dk_at dksX9_firstOf_0 1 rfl rfl)
theorem dX9_firstOf_2 : decode cX9_firstOf 2 = .ok (.bipush 7, 2) := dk_16 7 (dk_at dksX9_firstOf_0 2 rfl rfl)
theorem dX9_firstOf_4 : decode cX9_firstOf 4 = .ok (.invokevirtual 115, 3) := dk_182 0 115 (dk_at dksX9_firstOf_0 4 rfl rfl)
theorem dX9_firstOf_7 : decode cX9_firstOf 7 = .ok (.aload_n 0, 1) := dk_42 (dk_at dksX9_firstOf_0 7 rfl rfl)
theorem dX9_firstOf_8 : decode cX9_firstOf 8 = .ok (.getfield 32, 3) := dk_180 0 32 (dk_at dksX9_firstOf_0 8 rfl rfl)
theorem dX9_firstOf_11 : decode cX9_firstOf 11 = .ok (.iconst 1, 1) := dk_4 (dk_at dksX9_firstOf_0 11 rfl rfl)
theorem dX9_firstOf_12 : decode cX9_firstOf 12 = .ok (.iaload, 1) := dk_46 (dk_at dksX9_firstOf_0 12 rfl rfl)
theorem dX9_firstOf_13 : decode cX9_firstOf 13 = .ok (.if_icmp .ge 13, 3) := dk_162 0 13 (dk_at dksX9_firstOf_0 13 rfl rfl)
theorem dX9_firstOf_16 : decode cX9_firstOf 16 = .ok (.aload_n 0, 1) := dk_42 (dk_at dksX9_firstOf_0 16 rfl rfl)
theorem dX9_firstOf_17 : decode cX9_firstOf 17 = .ok (.iload_n 1, 1) := dk_27 (dk_at dksX9_firstOf_0 17 rfl rfl)
theorem dX9_firstOf_18 : decode cX9_firstOf 18 = .ok (.bipush 7, 2) := dk_16 7 (dk_at dksX9_firstOf_0 18 rfl rfl)
theorem dX9_firstOf_20 : decode cX9_firstOf 20 = .ok (.invokevirtual 115, 3) := dk_182 0 115 (dk_at dksX9_firstOf_0 20 rfl rfl)
theorem dX9_firstOf_23 : decode cX9_firstOf 23 = .ok (.goto 9, 3) := dk_167 0 9 (dk_at dksX9_firstOf_1 0 rfl rfl)
theorem dX9_firstOf_26 : decode cX9_firstOf 26 = .ok (.aload_n 0, 1) := dk_42 (dk_at dksX9_firstOf_1 3 rfl rfl)
theorem dX9_firstOf_27 : decode cX9_firstOf 27 = .ok (.getfield 32, 3) := dk_180 0 32 (dk_at dksX9_firstOf_1 4 rfl rfl)
theorem dX9_firstOf_30 : decode cX9_firstOf 30 = .ok (.iconst 1, 1) := dk_4 (dk_at dksX9_firstOf_1 7 rfl rfl)
theorem dX9_firstOf_31 : decode cX9_firstOf 31 = .ok (.iaload, 1) := dk_46 (dk_at dksX9_firstOf_1 8 rfl rfl)
theorem dX9_firstOf_32 : decode cX9_firstOf 32 = .ok (.ireturn, 1) := dk_172 (dk_at dksX9_firstOf_1 9 rfl rfl)
abbrev cX9_back1 : ByteArray := prog_17_method_56_code
def yX9_back1 : MethodName := ⟨RX9, "back1", "(II)I"⟩
def dkwX9_back1_0 : List UInt8 := [42, 27, 42, 180, 0, 32, 3, 46, 42, 180, 0, 32, 4, 46, 28, 182, 0, 227, 172]
abbrev dktX9_back1_0 : List UInt8 := dkwX9_back1_0 ++ []
theorem dksX9_back1_0 : cX9_back1.data.toList.drop 0 = dktX9_back1_0 := by decide +kernel
theorem dX9_back1_0 : decode cX9_back1 0 = .ok (.aload_n 0, 1) := dk_42 (dk_at dksX9_back1_0 0 rfl rfl)
theorem dX9_back1_1 : decode cX9_back1 1 = .ok (.iload_n 1, 1) := dk_27 (dk_at dksX9_back1_0 1 rfl rfl)
theorem dX9_back1_2 : decode cX9_back1 2 = .ok (.aload_n 0, 1) := dk_42 (dk_at dksX9_back1_0 2 rfl rfl)
theorem dX9_back1_3 : decode cX9_back1 3 = .ok (.getfield 32, 3) := dk_180 0 32 (dk_at dksX9_back1_0 3 rfl rfl)
theorem dX9_back1_6 : decode cX9_back1 6 = .ok (.iconst 0, 1) := dk_3 (dk_at dksX9_back1_0 6 rfl rfl)
theorem dX9_back1_7 : decode cX9_back1 7 = .ok (.iaload, 1) := dk_46 (dk_at dksX9_back1_0 7 rfl rfl)
theorem dX9_back1_8 : decode cX9_back1 8 = .ok (.aload_n 0, 1) := dk_42 (dk_at dksX9_back1_0 8 rfl rfl)
theorem dX9_back1_9 : decode cX9_back1 9 = .ok (.getfield 32, 3) := dk_180 0 32 (dk_at dksX9_back1_0 9 rfl rfl)
theorem dX9_back1_12 : decode cX9_back1 12 = .ok (.iconst 1, 1) := dk_4 (dk_at dksX9_back1_0 12 rfl rfl)
theorem dX9_back1_13 : decode cX9_back1 13 = .ok (.iaload, 1) := dk_46 (dk_at dksX9_back1_0 13 rfl rfl)
theorem dX9_back1_14 : decode cX9_back1 14 = .ok (.iload_n 2, 1) := dk_28 (dk_at dksX9_back1_0 14 rfl rfl)
theorem dX9_back1_15 : decode cX9_back1 15 = .ok (.invokevirtual 227, 3) := dk_182 0 227 (dk_at dksX9_back1_0 15 rfl rfl)
theorem dX9_back1_18 : decode cX9_back1 18 = .ok (.ireturn, 1) := dk_172 (dk_at dksX9_back1_0 18 rfl rfl)
abbrev cX9_backBy : ByteArray := prog_17_method_55_code
def yX9_backBy : MethodName := ⟨RX9, "backBy", "(IIII)I"⟩
def dkwX9_backBy_4 : List UInt8 := [22, 5, 136, 172]
abbrev dktX9_backBy_4 : List UInt8 := dkwX9_backBy_4 ++ []
def dkwX9_backBy_3 : List UInt8 := [157, 0, 7, 4, 167, 0, 4, 3, 181, 0, 225, 42, 180, 0, 225, 153, 0, 8, 22, 7, 167, 0, 5]
abbrev dktX9_backBy_3 : List UInt8 := dkwX9_backBy_3 ++ dktX9_backBy_4
def dkwX9_backBy_2 : List UInt8 := [22, 5, 101, 55, 9, 42, 22, 9, 21, 4, 133, 148, 157, 0, 19, 20, 0, 199, 22, 9, 105, 22, 7, 148]
abbrev dktX9_backBy_2 : List UInt8 := dkwX9_backBy_2 ++ dktX9_backBy_3
def dkwX9_backBy_1 : List UInt8 := [42, 180, 0, 39, 5, 47, 42, 180, 0, 39, 6, 47, 97, 42, 180, 0, 39, 7, 47, 97, 55, 7, 22, 7]
abbrev dktX9_backBy_1 : List UInt8 := dkwX9_backBy_1 ++ dktX9_backBy_2
def dkwX9_backBy_0 : List UInt8 := [42, 180, 0, 39, 5, 47, 28, 42, 180, 0, 39, 7, 47, 27, 133, 105, 29, 133, 184, 0, 201, 97, 55, 5]
abbrev dktX9_backBy_0 : List UInt8 := dkwX9_backBy_0 ++ dktX9_backBy_1
theorem dksX9_backBy_0 : cX9_backBy.data.toList.drop 0 = dktX9_backBy_0 := by decide +kernel
theorem dksX9_backBy_1 : cX9_backBy.data.toList.drop 24 = dktX9_backBy_1 := dk_seg dksX9_backBy_0 24 rfl rfl
theorem dksX9_backBy_2 : cX9_backBy.data.toList.drop 48 = dktX9_backBy_2 := dk_seg dksX9_backBy_1 24 rfl rfl
theorem dksX9_backBy_3 : cX9_backBy.data.toList.drop 72 = dktX9_backBy_3 := dk_seg dksX9_backBy_2 24 rfl rfl
theorem dksX9_backBy_4 : cX9_backBy.data.toList.drop 95 = dktX9_backBy_4 := dk_seg dksX9_backBy_3 23 rfl rfl
theorem dX9_backBy_0 : decode cX9_backBy 0 = .ok (.aload_n 0, 1) := dk_42 (dk_at dksX9_backBy_0 0 rfl rfl)
theorem dX9_backBy_1 : decode cX9_backBy 1 = .ok (.getfield 39, 3) := dk_180 0 39 (dk_at dksX9_backBy_0 1 rfl rfl)
theorem dX9_backBy_4 : decode cX9_backBy 4 = .ok (.iconst 2, 1) := dk_5 (dk_at dksX9_backBy_0 4 rfl rfl)
theorem dX9_backBy_5 : decode cX9_backBy 5 = .ok (.laload, 1) := dk_47 (dk_at dksX9_backBy_0 5 rfl rfl)
theorem dX9_backBy_6 : decode cX9_backBy 6 = .ok (.iload_n 2, 1) := dk_28 (dk_at dksX9_backBy_0 6 rfl rfl)
theorem dX9_backBy_7 : decode cX9_backBy 7 = .ok (.aload_n 0, 1) := dk_42 (dk_at dksX9_backBy_0 7 rfl rfl)
theorem dX9_backBy_8 : decode cX9_backBy 8 = .ok (.getfield 39, 3) := dk_180 0 39 (dk_at dksX9_backBy_0 8 rfl rfl)
theorem dX9_backBy_11 : decode cX9_backBy 11 = .ok (.iconst 4, 1) := dk_7 (dk_at dksX9_backBy_0 11 rfl rfl)
theorem dX9_backBy_12 : decode cX9_backBy 12 = .ok (.laload, 1) := dk_47 (dk_at dksX9_backBy_0 12 rfl rfl)
theorem dX9_backBy_13 : decode cX9_backBy 13 = .ok (.iload_n 1, 1) := dk_27 (dk_at dksX9_backBy_0 13 rfl rfl)
theorem dX9_backBy_14 : decode cX9_backBy 14 = .ok (.i2l, 1) := dk_133 (dk_at dksX9_backBy_0 14 rfl rfl)
theorem dX9_backBy_15 : decode cX9_backBy 15 = .ok (.lmul, 1) := dk_105 (dk_at dksX9_backBy_0 15 rfl rfl)
theorem dX9_backBy_16 : decode cX9_backBy 16 = .ok (.iload_n 3, 1) := dk_29 (dk_at dksX9_backBy_0 16 rfl rfl)
theorem dX9_backBy_17 : decode cX9_backBy 17 = .ok (.i2l, 1) := dk_133 (dk_at dksX9_backBy_0 17 rfl rfl)
theorem dX9_backBy_18 : decode cX9_backBy 18 = .ok (.invokestatic 201, 3) := dk_184 0 201 (dk_at dksX9_backBy_0 18 rfl rfl)
theorem dX9_backBy_21 : decode cX9_backBy 21 = .ok (.ladd, 1) := dk_97 (dk_at dksX9_backBy_0 21 rfl rfl)
theorem dX9_backBy_22 : decode cX9_backBy 22 = .ok (.lstore 5, 2) := dk_55 5 (dk_at dksX9_backBy_0 22 rfl rfl)
theorem dX9_backBy_24 : decode cX9_backBy 24 = .ok (.aload_n 0, 1) := dk_42 (dk_at dksX9_backBy_1 0 rfl rfl)
theorem dX9_backBy_25 : decode cX9_backBy 25 = .ok (.getfield 39, 3) := dk_180 0 39 (dk_at dksX9_backBy_1 1 rfl rfl)
theorem dX9_backBy_28 : decode cX9_backBy 28 = .ok (.iconst 2, 1) := dk_5 (dk_at dksX9_backBy_1 4 rfl rfl)
theorem dX9_backBy_29 : decode cX9_backBy 29 = .ok (.laload, 1) := dk_47 (dk_at dksX9_backBy_1 5 rfl rfl)
theorem dX9_backBy_30 : decode cX9_backBy 30 = .ok (.aload_n 0, 1) := dk_42 (dk_at dksX9_backBy_1 6 rfl rfl)
theorem dX9_backBy_31 : decode cX9_backBy 31 = .ok (.getfield 39, 3) := dk_180 0 39 (dk_at dksX9_backBy_1 7 rfl rfl)
theorem dX9_backBy_34 : decode cX9_backBy 34 = .ok (.iconst 3, 1) := dk_6 (dk_at dksX9_backBy_1 10 rfl rfl)
theorem dX9_backBy_35 : decode cX9_backBy 35 = .ok (.laload, 1) := dk_47 (dk_at dksX9_backBy_1 11 rfl rfl)
theorem dX9_backBy_36 : decode cX9_backBy 36 = .ok (.ladd, 1) := dk_97 (dk_at dksX9_backBy_1 12 rfl rfl)
theorem dX9_backBy_37 : decode cX9_backBy 37 = .ok (.aload_n 0, 1) := dk_42 (dk_at dksX9_backBy_1 13 rfl rfl)
theorem dX9_backBy_38 : decode cX9_backBy 38 = .ok (.getfield 39, 3) := dk_180 0 39 (dk_at dksX9_backBy_1 14 rfl rfl)
theorem dX9_backBy_41 : decode cX9_backBy 41 = .ok (.iconst 4, 1) := dk_7 (dk_at dksX9_backBy_1 17 rfl rfl)
theorem dX9_backBy_42 : decode cX9_backBy 42 = .ok (.laload, 1) := dk_47 (dk_at dksX9_backBy_1 18 rfl rfl)
theorem dX9_backBy_43 : decode cX9_backBy 43 = .ok (.ladd, 1) := dk_97 (dk_at dksX9_backBy_1 19 rfl rfl)
theorem dX9_backBy_44 : decode cX9_backBy 44 = .ok (.lstore 7, 2) := dk_55 7 (dk_at dksX9_backBy_1 20 rfl rfl)
theorem dX9_backBy_46 : decode cX9_backBy 46 = .ok (.lload 7, 2) := dk_22 7 (dk_at dksX9_backBy_1 22 rfl rfl)
theorem dX9_backBy_48 : decode cX9_backBy 48 = .ok (.lload 5, 2) := dk_22 5 (dk_at dksX9_backBy_2 0 rfl rfl)
theorem dX9_backBy_50 : decode cX9_backBy 50 = .ok (.lsub, 1) := dk_101 (dk_at dksX9_backBy_2 2 rfl rfl)
theorem dX9_backBy_51 : decode cX9_backBy 51 = .ok (.lstore 9, 2) := dk_55 9 (dk_at dksX9_backBy_2 3 rfl rfl)
theorem dX9_backBy_53 : decode cX9_backBy 53 = .ok (.aload_n 0, 1) := dk_42 (dk_at dksX9_backBy_2 5 rfl rfl)
theorem dX9_backBy_54 : decode cX9_backBy 54 = .ok (.lload 9, 2) := dk_22 9 (dk_at dksX9_backBy_2 6 rfl rfl)
theorem dX9_backBy_56 : decode cX9_backBy 56 = .ok (.iload 4, 2) := dk_21 4 (dk_at dksX9_backBy_2 8 rfl rfl)
theorem dX9_backBy_58 : decode cX9_backBy 58 = .ok (.i2l, 1) := dk_133 (dk_at dksX9_backBy_2 10 rfl rfl)
theorem dX9_backBy_59 : decode cX9_backBy 59 = .ok (.lcmp, 1) := dk_148 (dk_at dksX9_backBy_2 11 rfl rfl)
theorem dX9_backBy_60 : decode cX9_backBy 60 = .ok (.ifCond .gt 19, 3) := dk_157 0 19 (dk_at dksX9_backBy_2 12 rfl rfl)
theorem dX9_backBy_63 : decode cX9_backBy 63 = .ok (.ldc2_w 199, 3) := dk_20 0 199 (dk_at dksX9_backBy_2 15 rfl rfl)
theorem dX9_backBy_66 : decode cX9_backBy 66 = .ok (.lload 9, 2) := dk_22 9 (dk_at dksX9_backBy_2 18 rfl rfl)
theorem dX9_backBy_68 : decode cX9_backBy 68 = .ok (.lmul, 1) := dk_105 (dk_at dksX9_backBy_2 20 rfl rfl)
theorem dX9_backBy_69 : decode cX9_backBy 69 = .ok (.lload 7, 2) := dk_22 7 (dk_at dksX9_backBy_2 21 rfl rfl)
theorem dX9_backBy_71 : decode cX9_backBy 71 = .ok (.lcmp, 1) := dk_148 (dk_at dksX9_backBy_2 23 rfl rfl)
theorem dX9_backBy_72 : decode cX9_backBy 72 = .ok (.ifCond .gt 7, 3) := dk_157 0 7 (dk_at dksX9_backBy_3 0 rfl rfl)
theorem dX9_backBy_75 : decode cX9_backBy 75 = .ok (.iconst 1, 1) := dk_4 (dk_at dksX9_backBy_3 3 rfl rfl)
theorem dX9_backBy_76 : decode cX9_backBy 76 = .ok (.goto 4, 3) := dk_167 0 4 (dk_at dksX9_backBy_3 4 rfl rfl)
theorem dX9_backBy_79 : decode cX9_backBy 79 = .ok (.iconst 0, 1) := dk_3 (dk_at dksX9_backBy_3 7 rfl rfl)
theorem dX9_backBy_80 : decode cX9_backBy 80 = .ok (.putfield 225, 3) := dk_181 0 225 (dk_at dksX9_backBy_3 8 rfl rfl)
theorem dX9_backBy_83 : decode cX9_backBy 83 = .ok (.aload_n 0, 1) := dk_42 (dk_at dksX9_backBy_3 11 rfl rfl)
theorem dX9_backBy_84 : decode cX9_backBy 84 = .ok (.getfield 225, 3) := dk_180 0 225 (dk_at dksX9_backBy_3 12 rfl rfl)
theorem dX9_backBy_87 : decode cX9_backBy 87 = .ok (.ifCond .eq 8, 3) := dk_153 0 8 (dk_at dksX9_backBy_3 15 rfl rfl)
theorem dX9_backBy_90 : decode cX9_backBy 90 = .ok (.lload 7, 2) := dk_22 7 (dk_at dksX9_backBy_3 18 rfl rfl)
theorem dX9_backBy_92 : decode cX9_backBy 92 = .ok (.goto 5, 3) := dk_167 0 5 (dk_at dksX9_backBy_3 20 rfl rfl)
theorem dX9_backBy_95 : decode cX9_backBy 95 = .ok (.lload 5, 2) := dk_22 5 (dk_at dksX9_backBy_4 0 rfl rfl)
theorem dX9_backBy_97 : decode cX9_backBy 97 = .ok (.l2i, 1) := dk_136 (dk_at dksX9_backBy_4 2 rfl rfl)
theorem dX9_backBy_98 : decode cX9_backBy 98 = .ok (.ireturn, 1) := dk_172 (dk_at dksX9_backBy_4 3 rfl rfl)
abbrev cX9_books : ByteArray := prog_17_method_60_code
def yX9_books : MethodName := ⟨RX9, "books", "(IIII)V"⟩
def dkwX9_books_6 : List UInt8 := [182, 0, 184, 177]
abbrev dktX9_books_6 : List UInt8 := dkwX9_books_6 ++ []
def dkwX9_books_5 : List UInt8 := [182, 0, 111, 42, 17, 7, 74, 4, 182, 0, 184, 42, 17, 8, 20, 7, 27, 104, 96, 28, 96, 29]
abbrev dktX9_books_5 : List UInt8 := dkwX9_books_5 ++ dktX9_books_6
def dkwX9_books_4 : List UInt8 := [17, 7, 79, 29, 182, 0, 111, 42, 17, 7, 80, 21, 4, 182, 0, 111, 42, 17, 7, 75, 21, 5, 4, 96]
abbrev dktX9_books_4 : List UInt8 := dkwX9_books_4 ++ dktX9_books_5
def dkwX9_books_3 : List UInt8 := [3, 182, 0, 174, 182, 0, 111, 42, 17, 7, 77, 27, 182, 0, 111, 42, 17, 7, 78, 28, 182, 0, 111, 42]
abbrev dktX9_books_3 : List UInt8 := dkwX9_books_3 ++ dktX9_books_4
def dkwX9_books_2 : List UInt8 := [42, 17, 7, 76, 21, 6, 96, 182, 0, 174, 182, 0, 111, 132, 6, 255, 167, 255, 226, 42, 17, 7, 76, 42]
abbrev dktX9_books_2 : List UInt8 := dkwX9_books_2 ++ dktX9_books_3
def dkwX9_books_1 : List UInt8 := [54, 5, 8, 21, 5, 104, 4, 100, 54, 6, 21, 6, 155, 0, 31, 42, 17, 7, 76, 21, 6, 96, 8, 96]
abbrev dktX9_books_1 : List UInt8 := dkwX9_books_1 ++ dktX9_books_2
def dkwX9_books_0 : List UInt8 := [42, 17, 7, 75, 182, 0, 174, 16, 40, 162, 0, 13, 42, 17, 7, 75, 182, 0, 174, 167, 0, 5, 16, 39]
abbrev dktX9_books_0 : List UInt8 := dkwX9_books_0 ++ dktX9_books_1
theorem dksX9_books_0 : cX9_books.data.toList.drop 0 = dktX9_books_0 := by decide +kernel
theorem dksX9_books_1 : cX9_books.data.toList.drop 24 = dktX9_books_1 := dk_seg dksX9_books_0 24 rfl rfl
theorem dksX9_books_2 : cX9_books.data.toList.drop 48 = dktX9_books_2 := dk_seg dksX9_books_1 24 rfl rfl
theorem dksX9_books_3 : cX9_books.data.toList.drop 72 = dktX9_books_3 := dk_seg dksX9_books_2 24 rfl rfl
theorem dksX9_books_4 : cX9_books.data.toList.drop 96 = dktX9_books_4 := dk_seg dksX9_books_3 24 rfl rfl
theorem dksX9_books_5 : cX9_books.data.toList.drop 120 = dktX9_books_5 := dk_seg dksX9_books_4 24 rfl rfl
theorem dksX9_books_6 : cX9_books.data.toList.drop 142 = dktX9_books_6 := dk_seg dksX9_books_5 22 rfl rfl
theorem dX9_books_0 : decode cX9_books 0 = .ok (.aload_n 0, 1) := dk_42 (dk_at dksX9_books_0 0 rfl rfl)
theorem dX9_books_1 : decode cX9_books 1 = .ok (.sipush 1867, 3) := dk_17 7 75 (dk_at dksX9_books_0 1 rfl rfl)
theorem dX9_books_4 : decode cX9_books 4 = .ok (.invokevirtual 174, 3) := dk_182 0 174 (dk_at dksX9_books_0 4 rfl rfl)
theorem dX9_books_7 : decode cX9_books 7 = .ok (.bipush 40, 2) := dk_16 40 (dk_at dksX9_books_0 7 rfl rfl)
theorem dX9_books_9 : decode cX9_books 9 = .ok (.if_icmp .ge 13, 3) := dk_162 0 13 (dk_at dksX9_books_0 9 rfl rfl)
theorem dX9_books_12 : decode cX9_books 12 = .ok (.aload_n 0, 1) := dk_42 (dk_at dksX9_books_0 12 rfl rfl)
theorem dX9_books_13 : decode cX9_books 13 = .ok (.sipush 1867, 3) := dk_17 7 75 (dk_at dksX9_books_0 13 rfl rfl)
theorem dX9_books_16 : decode cX9_books 16 = .ok (.invokevirtual 174, 3) := dk_182 0 174 (dk_at dksX9_books_0 16 rfl rfl)
theorem dX9_books_19 : decode cX9_books 19 = .ok (.goto 5, 3) := dk_167 0 5 (dk_at dksX9_books_0 19 rfl rfl)
theorem dX9_books_22 : decode cX9_books 22 = .ok (.bipush 39, 2) := dk_16 39 (dk_at dksX9_books_0 22 rfl rfl)
theorem dX9_books_24 : decode cX9_books 24 = .ok (.istore 5, 2) := dk_54 5 (dk_at dksX9_books_1 0 rfl rfl)
theorem dX9_books_26 : decode cX9_books 26 = .ok (.iconst 5, 1) := dk_8 (dk_at dksX9_books_1 2 rfl rfl)
theorem dX9_books_27 : decode cX9_books 27 = .ok (.iload 5, 2) := dk_21 5 (dk_at dksX9_books_1 3 rfl rfl)
theorem dX9_books_29 : decode cX9_books 29 = .ok (.imul, 1) := dk_104 (dk_at dksX9_books_1 5 rfl rfl)
theorem dX9_books_30 : decode cX9_books 30 = .ok (.iconst 1, 1) := dk_4 (dk_at dksX9_books_1 6 rfl rfl)
theorem dX9_books_31 : decode cX9_books 31 = .ok (.isub, 1) := dk_100 (dk_at dksX9_books_1 7 rfl rfl)
theorem dX9_books_32 : decode cX9_books 32 = .ok (.istore 6, 2) := dk_54 6 (dk_at dksX9_books_1 8 rfl rfl)
theorem dX9_books_34 : decode cX9_books 34 = .ok (.iload 6, 2) := dk_21 6 (dk_at dksX9_books_1 10 rfl rfl)
theorem dX9_books_36 : decode cX9_books 36 = .ok (.ifCond .lt 31, 3) := dk_155 0 31 (dk_at dksX9_books_1 12 rfl rfl)
theorem dX9_books_39 : decode cX9_books 39 = .ok (.aload_n 0, 1) := dk_42 (dk_at dksX9_books_1 15 rfl rfl)
theorem dX9_books_40 : decode cX9_books 40 = .ok (.sipush 1868, 3) := dk_17 7 76 (dk_at dksX9_books_1 16 rfl rfl)
theorem dX9_books_43 : decode cX9_books 43 = .ok (.iload 6, 2) := dk_21 6 (dk_at dksX9_books_1 19 rfl rfl)
theorem dX9_books_45 : decode cX9_books 45 = .ok (.iadd, 1) := dk_96 (dk_at dksX9_books_1 21 rfl rfl)
theorem dX9_books_46 : decode cX9_books 46 = .ok (.iconst 5, 1) := dk_8 (dk_at dksX9_books_1 22 rfl rfl)
theorem dX9_books_47 : decode cX9_books 47 = .ok (.iadd, 1) := dk_96 (dk_at dksX9_books_1 23 rfl rfl)
theorem dX9_books_48 : decode cX9_books 48 = .ok (.aload_n 0, 1) := dk_42 (dk_at dksX9_books_2 0 rfl rfl)
theorem dX9_books_49 : decode cX9_books 49 = .ok (.sipush 1868, 3) := dk_17 7 76 (dk_at dksX9_books_2 1 rfl rfl)
theorem dX9_books_52 : decode cX9_books 52 = .ok (.iload 6, 2) := dk_21 6 (dk_at dksX9_books_2 4 rfl rfl)
theorem dX9_books_54 : decode cX9_books 54 = .ok (.iadd, 1) := dk_96 (dk_at dksX9_books_2 6 rfl rfl)
theorem dX9_books_55 : decode cX9_books 55 = .ok (.invokevirtual 174, 3) := dk_182 0 174 (dk_at dksX9_books_2 7 rfl rfl)
theorem dX9_books_58 : decode cX9_books 58 = .ok (.invokevirtual 111, 3) := dk_182 0 111 (dk_at dksX9_books_2 10 rfl rfl)
theorem dX9_books_61 : decode cX9_books 61 = .ok (.iinc 6 (-1), 3) := dk_132 6 255 (dk_at dksX9_books_2 13 rfl rfl)
theorem dX9_books_64 : decode cX9_books 64 = .ok (.goto (-30), 3) := dk_167 255 226 (dk_at dksX9_books_2 16 rfl rfl)
theorem dX9_books_67 : decode cX9_books 67 = .ok (.aload_n 0, 1) := dk_42 (dk_at dksX9_books_2 19 rfl rfl)
theorem dX9_books_68 : decode cX9_books 68 = .ok (.sipush 1868, 3) := dk_17 7 76 (dk_at dksX9_books_2 20 rfl rfl)
theorem dX9_books_71 : decode cX9_books 71 = .ok (.aload_n 0, 1) := dk_42 (dk_at dksX9_books_2 23 rfl rfl)
theorem dX9_books_72 : decode cX9_books 72 = .ok (.iconst 0, 1) := dk_3 (dk_at dksX9_books_3 0 rfl rfl)
theorem dX9_books_73 : decode cX9_books 73 = .ok (.invokevirtual 174, 3) := dk_182 0 174 (dk_at dksX9_books_3 1 rfl rfl)
theorem dX9_books_76 : decode cX9_books 76 = .ok (.invokevirtual 111, 3) := dk_182 0 111 (dk_at dksX9_books_3 4 rfl rfl)
theorem dX9_books_79 : decode cX9_books 79 = .ok (.aload_n 0, 1) := dk_42 (dk_at dksX9_books_3 7 rfl rfl)
theorem dX9_books_80 : decode cX9_books 80 = .ok (.sipush 1869, 3) := dk_17 7 77 (dk_at dksX9_books_3 8 rfl rfl)
theorem dX9_books_83 : decode cX9_books 83 = .ok (.iload_n 1, 1) := dk_27 (dk_at dksX9_books_3 11 rfl rfl)
theorem dX9_books_84 : decode cX9_books 84 = .ok (.invokevirtual 111, 3) := dk_182 0 111 (dk_at dksX9_books_3 12 rfl rfl)
theorem dX9_books_87 : decode cX9_books 87 = .ok (.aload_n 0, 1) := dk_42 (dk_at dksX9_books_3 15 rfl rfl)
theorem dX9_books_88 : decode cX9_books 88 = .ok (.sipush 1870, 3) := dk_17 7 78 (dk_at dksX9_books_3 16 rfl rfl)
theorem dX9_books_91 : decode cX9_books 91 = .ok (.iload_n 2, 1) := dk_28 (dk_at dksX9_books_3 19 rfl rfl)
theorem dX9_books_92 : decode cX9_books 92 = .ok (.invokevirtual 111, 3) := dk_182 0 111 (dk_at dksX9_books_3 20 rfl rfl)
theorem dX9_books_95 : decode cX9_books 95 = .ok (.aload_n 0, 1) := dk_42 (dk_at dksX9_books_3 23 rfl rfl)
theorem dX9_books_96 : decode cX9_books 96 = .ok (.sipush 1871, 3) := dk_17 7 79 (dk_at dksX9_books_4 0 rfl rfl)
theorem dX9_books_99 : decode cX9_books 99 = .ok (.iload_n 3, 1) := dk_29 (dk_at dksX9_books_4 3 rfl rfl)
theorem dX9_books_100 : decode cX9_books 100 = .ok (.invokevirtual 111, 3) := dk_182 0 111 (dk_at dksX9_books_4 4 rfl rfl)
theorem dX9_books_103 : decode cX9_books 103 = .ok (.aload_n 0, 1) := dk_42 (dk_at dksX9_books_4 7 rfl rfl)
theorem dX9_books_104 : decode cX9_books 104 = .ok (.sipush 1872, 3) := dk_17 7 80 (dk_at dksX9_books_4 8 rfl rfl)
theorem dX9_books_107 : decode cX9_books 107 = .ok (.iload 4, 2) := dk_21 4 (dk_at dksX9_books_4 11 rfl rfl)
theorem dX9_books_109 : decode cX9_books 109 = .ok (.invokevirtual 111, 3) := dk_182 0 111 (dk_at dksX9_books_4 13 rfl rfl)
theorem dX9_books_112 : decode cX9_books 112 = .ok (.aload_n 0, 1) := dk_42 (dk_at dksX9_books_4 16 rfl rfl)
theorem dX9_books_113 : decode cX9_books 113 = .ok (.sipush 1867, 3) := dk_17 7 75 (dk_at dksX9_books_4 17 rfl rfl)
theorem dX9_books_116 : decode cX9_books 116 = .ok (.iload 5, 2) := dk_21 5 (dk_at dksX9_books_4 20 rfl rfl)
theorem dX9_books_118 : decode cX9_books 118 = .ok (.iconst 1, 1) := dk_4 (dk_at dksX9_books_4 22 rfl rfl)
theorem dX9_books_119 : decode cX9_books 119 = .ok (.iadd, 1) := dk_96 (dk_at dksX9_books_4 23 rfl rfl)
theorem dX9_books_120 : decode cX9_books 120 = .ok (.invokevirtual 111, 3) := dk_182 0 111 (dk_at dksX9_books_5 0 rfl rfl)
theorem dX9_books_123 : decode cX9_books 123 = .ok (.aload_n 0, 1) := dk_42 (dk_at dksX9_books_5 3 rfl rfl)
theorem dX9_books_124 : decode cX9_books 124 = .ok (.sipush 1866, 3) := dk_17 7 74 (dk_at dksX9_books_5 4 rfl rfl)
theorem dX9_books_127 : decode cX9_books 127 = .ok (.iconst 1, 1) := dk_4 (dk_at dksX9_books_5 7 rfl rfl)
theorem dX9_books_128 : decode cX9_books 128 = .ok (.invokevirtual 184, 3) := dk_182 0 184 (dk_at dksX9_books_5 8 rfl rfl)
theorem dX9_books_131 : decode cX9_books 131 = .ok (.aload_n 0, 1) := dk_42 (dk_at dksX9_books_5 11 rfl rfl)
theorem dX9_books_132 : decode cX9_books 132 = .ok (.sipush 2068, 3) := dk_17 8 20 (dk_at dksX9_books_5 12 rfl rfl)
theorem dX9_books_135 : decode cX9_books 135 = .ok (.iconst 4, 1) := dk_7 (dk_at dksX9_books_5 15 rfl rfl)
theorem dX9_books_136 : decode cX9_books 136 = .ok (.iload_n 1, 1) := dk_27 (dk_at dksX9_books_5 16 rfl rfl)
theorem dX9_books_137 : decode cX9_books 137 = .ok (.imul, 1) := dk_104 (dk_at dksX9_books_5 17 rfl rfl)
theorem dX9_books_138 : decode cX9_books 138 = .ok (.iadd, 1) := dk_96 (dk_at dksX9_books_5 18 rfl rfl)
theorem dX9_books_139 : decode cX9_books 139 = .ok (.iload_n 2, 1) := dk_28 (dk_at dksX9_books_5 19 rfl rfl)
theorem dX9_books_140 : decode cX9_books 140 = .ok (.iadd, 1) := dk_96 (dk_at dksX9_books_5 20 rfl rfl)
theorem dX9_books_141 : decode cX9_books 141 = .ok (.iload_n 3, 1) := dk_29 (dk_at dksX9_books_5 21 rfl rfl)
theorem dX9_books_142 : decode cX9_books 142 = .ok (.invokevirtual 184, 3) := dk_182 0 184 (dk_at dksX9_books_6 0 rfl rfl)
theorem dX9_books_145 : decode cX9_books 145 = .ok (.return_, 1) := dk_177 (dk_at dksX9_books_6 3 rfl rfl)
abbrev cX9_closesYear : ByteArray := prog_17_method_63_code
def yX9_closesYear : MethodName := ⟨RX9, "closesYear", "()V"⟩
def dkwX9_closesYear_4 : List UInt8 := [132, 2, 1, 167, 255, 236, 177]
abbrev dktX9_closesYear_4 : List UInt8 := dkwX9_closesYear_4 ++ []
def dkwX9_closesYear_3 : List UInt8 := [167, 255, 192, 3, 61, 28, 42, 17, 7, 73, 182, 0, 174, 162, 0, 15, 42, 28, 27, 182, 1, 8]
abbrev dktX9_closesYear_3 : List UInt8 := dkwX9_closesYear_3 ++ dktX9_closesYear_4
def dkwX9_closesYear_2 : List UInt8 := [42, 180, 0, 32, 5, 46, 182, 0, 249, 42, 28, 27, 182, 1, 5, 100, 16, 254, 182, 0, 252, 132, 2, 1]
abbrev dktX9_closesYear_2 : List UInt8 := dkwX9_closesYear_2 ++ dktX9_closesYear_3
def dkwX9_closesYear_1 : List UInt8 := [182, 0, 237, 62, 42, 17, 7, 9, 16, 16, 28, 104, 96, 27, 96, 29, 182, 0, 111, 42, 28, 4, 42, 29]
abbrev dktX9_closesYear_1 : List UInt8 := dkwX9_closesYear_1 ++ dktX9_closesYear_2
def dkwX9_closesYear_0 : List UInt8 := [42, 182, 0, 233, 60, 3, 61, 28, 42, 180, 0, 94, 162, 0, 62, 42, 28, 27, 182, 0, 230, 42, 28]
abbrev dktX9_closesYear_0 : List UInt8 := dkwX9_closesYear_0 ++ dktX9_closesYear_1
theorem dksX9_closesYear_0 : cX9_closesYear.data.toList.drop 0 = dktX9_closesYear_0 := by decide +kernel
theorem dksX9_closesYear_1 : cX9_closesYear.data.toList.drop 23 = dktX9_closesYear_1 := dk_seg dksX9_closesYear_0 23 rfl rfl
theorem dksX9_closesYear_2 : cX9_closesYear.data.toList.drop 47 = dktX9_closesYear_2 := dk_seg dksX9_closesYear_1 24 rfl rfl
theorem dksX9_closesYear_3 : cX9_closesYear.data.toList.drop 71 = dktX9_closesYear_3 := dk_seg dksX9_closesYear_2 24 rfl rfl
theorem dksX9_closesYear_4 : cX9_closesYear.data.toList.drop 93 = dktX9_closesYear_4 := dk_seg dksX9_closesYear_3 22 rfl rfl
theorem dX9_closesYear_0 : decode cX9_closesYear 0 = .ok (.aload_n 0, 1) := dk_42 (dk_at dksX9_closesYear_0 0 rfl rfl)
theorem dX9_closesYear_1 : decode cX9_closesYear 1 = .ok (.invokevirtual 233, 3) := dk_182 0 233 (dk_at dksX9_closesYear_0 1 rfl rfl)
theorem dX9_closesYear_4 : decode cX9_closesYear 4 = .ok (.istore_n 1, 1) := dk_60 (dk_at dksX9_closesYear_0 4 rfl rfl)
theorem dX9_closesYear_5 : decode cX9_closesYear 5 = .ok (.iconst 0, 1) := dk_3 (dk_at dksX9_closesYear_0 5 rfl rfl)
theorem dX9_closesYear_6 : decode cX9_closesYear 6 = .ok (.istore_n 2, 1) := dk_61 (dk_at dksX9_closesYear_0 6 rfl rfl)
theorem dX9_closesYear_7 : decode cX9_closesYear 7 = .ok (.iload_n 2, 1) := dk_28 (dk_at dksX9_closesYear_0 7 rfl rfl)
theorem dX9_closesYear_8 : decode cX9_closesYear 8 = .ok (.aload_n 0, 1) := dk_42 (dk_at dksX9_closesYear_0 8 rfl rfl)
theorem dX9_closesYear_9 : decode cX9_closesYear 9 = .ok (.getfield 94, 3) := dk_180 0 94 (dk_at dksX9_closesYear_0 9 rfl rfl)
theorem dX9_closesYear_12 : decode cX9_closesYear 12 = .ok (.if_icmp .ge 62, 3) := dk_162 0 62 (dk_at dksX9_closesYear_0 12 rfl rfl)
theorem dX9_closesYear_15 : decode cX9_closesYear 15 = .ok (.aload_n 0, 1) := dk_42 (dk_at dksX9_closesYear_0 15 rfl rfl)
theorem dX9_closesYear_16 : decode cX9_closesYear 16 = .ok (.iload_n 2, 1) := dk_28 (dk_at dksX9_closesYear_0 16 rfl rfl)
theorem dX9_closesYear_17 : decode cX9_closesYear 17 = .ok (.iload_n 1, 1) := dk_27 (dk_at dksX9_closesYear_0 17 rfl rfl)
theorem dX9_closesYear_18 : decode cX9_closesYear 18 = .ok (.invokevirtual 230, 3) := dk_182 0 230 (dk_at dksX9_closesYear_0 18 rfl rfl)
theorem dX9_closesYear_21 : decode cX9_closesYear 21 = .ok (.aload_n 0, 1) := dk_42 (dk_at dksX9_closesYear_0 21 rfl rfl)
theorem dX9_closesYear_22 : decode cX9_closesYear 22 = .ok (.iload_n 2, 1) := dk_28 (dk_at dksX9_closesYear_0 22 rfl rfl)
theorem dX9_closesYear_23 : decode cX9_closesYear 23 = .ok (.invokevirtual 237, 3) := dk_182 0 237 (dk_at dksX9_closesYear_1 0 rfl rfl)
theorem dX9_closesYear_26 : decode cX9_closesYear 26 = .ok (.istore_n 3, 1) := dk_62 (dk_at dksX9_closesYear_1 3 rfl rfl)
theorem dX9_closesYear_27 : decode cX9_closesYear 27 = .ok (.aload_n 0, 1) := dk_42 (dk_at dksX9_closesYear_1 4 rfl rfl)
theorem dX9_closesYear_28 : decode cX9_closesYear 28 = .ok (.sipush 1801, 3) := dk_17 7 9 (dk_at dksX9_closesYear_1 5 rfl rfl)
theorem dX9_closesYear_31 : decode cX9_closesYear 31 = .ok (.bipush 16, 2) := dk_16 16 (dk_at dksX9_closesYear_1 8 rfl rfl)
theorem dX9_closesYear_33 : decode cX9_closesYear 33 = .ok (.iload_n 2, 1) := dk_28 (dk_at dksX9_closesYear_1 10 rfl rfl)
theorem dX9_closesYear_34 : decode cX9_closesYear 34 = .ok (.imul, 1) := dk_104 (dk_at dksX9_closesYear_1 11 rfl rfl)
theorem dX9_closesYear_35 : decode cX9_closesYear 35 = .ok (.iadd, 1) := dk_96 (dk_at dksX9_closesYear_1 12 rfl rfl)
theorem dX9_closesYear_36 : decode cX9_closesYear 36 = .ok (.iload_n 1, 1) := dk_27 (dk_at dksX9_closesYear_1 13 rfl rfl)
theorem dX9_closesYear_37 : decode cX9_closesYear 37 = .ok (.iadd, 1) := dk_96 (dk_at dksX9_closesYear_1 14 rfl rfl)
theorem dX9_closesYear_38 : decode cX9_closesYear 38 = .ok (.iload_n 3, 1) := dk_29 (dk_at dksX9_closesYear_1 15 rfl rfl)
theorem dX9_closesYear_39 : decode cX9_closesYear 39 = .ok (.invokevirtual 111, 3) := dk_182 0 111 (dk_at dksX9_closesYear_1 16 rfl rfl)
theorem dX9_closesYear_42 : decode cX9_closesYear 42 = .ok (.aload_n 0, 1) := dk_42 (dk_at dksX9_closesYear_1 19 rfl rfl)
theorem dX9_closesYear_43 : decode cX9_closesYear 43 = .ok (.iload_n 2, 1) := dk_28 (dk_at dksX9_closesYear_1 20 rfl rfl)
theorem dX9_closesYear_44 : decode cX9_closesYear 44 = .ok (.iconst 1, 1) := dk_4 (dk_at dksX9_closesYear_1 21 rfl rfl)
theorem dX9_closesYear_45 : decode cX9_closesYear 45 = .ok (.aload_n 0, 1) := dk_42 (dk_at dksX9_closesYear_1 22 rfl rfl)
theorem dX9_closesYear_46 : decode cX9_closesYear 46 = .ok (.iload_n 3, 1) := dk_29 (dk_at dksX9_closesYear_1 23 rfl rfl)
theorem dX9_closesYear_47 : decode cX9_closesYear 47 = .ok (.aload_n 0, 1) := dk_42 (dk_at dksX9_closesYear_2 0 rfl rfl)
theorem dX9_closesYear_48 : decode cX9_closesYear 48 = .ok (.getfield 32, 3) := dk_180 0 32 (dk_at dksX9_closesYear_2 1 rfl rfl)
theorem dX9_closesYear_51 : decode cX9_closesYear 51 = .ok (.iconst 2, 1) := dk_5 (dk_at dksX9_closesYear_2 4 rfl rfl)
theorem dX9_closesYear_52 : decode cX9_closesYear 52 = .ok (.iaload, 1) := dk_46 (dk_at dksX9_closesYear_2 5 rfl rfl)
theorem dX9_closesYear_53 : decode cX9_closesYear 53 = .ok (.invokevirtual 249, 3) := dk_182 0 249 (dk_at dksX9_closesYear_2 6 rfl rfl)
theorem dX9_closesYear_56 : decode cX9_closesYear 56 = .ok (.aload_n 0, 1) := dk_42 (dk_at dksX9_closesYear_2 9 rfl rfl)
theorem dX9_closesYear_57 : decode cX9_closesYear 57 = .ok (.iload_n 2, 1) := dk_28 (dk_at dksX9_closesYear_2 10 rfl rfl)
theorem dX9_closesYear_58 : decode cX9_closesYear 58 = .ok (.iload_n 1, 1) := dk_27 (dk_at dksX9_closesYear_2 11 rfl rfl)
theorem dX9_closesYear_59 : decode cX9_closesYear 59 = .ok (.invokevirtual 261, 3) := dk_182 1 5 (dk_at dksX9_closesYear_2 12 rfl rfl)
theorem dX9_closesYear_62 : decode cX9_closesYear 62 = .ok (.isub, 1) := dk_100 (dk_at dksX9_closesYear_2 15 rfl rfl)
theorem dX9_closesYear_63 : decode cX9_closesYear 63 = .ok (.bipush (-2), 2) := dk_16 254 (dk_at dksX9_closesYear_2 16 rfl rfl)
theorem dX9_closesYear_65 : decode cX9_closesYear 65 = .ok (.invokevirtual 252, 3) := dk_182 0 252 (dk_at dksX9_closesYear_2 18 rfl rfl)
theorem dX9_closesYear_68 : decode cX9_closesYear 68 = .ok (.iinc 2 1, 3) := dk_132 2 1 (dk_at dksX9_closesYear_2 21 rfl rfl)
theorem dX9_closesYear_71 : decode cX9_closesYear 71 = .ok (.goto (-64), 3) := dk_167 255 192 (dk_at dksX9_closesYear_3 0 rfl rfl)
theorem dX9_closesYear_74 : decode cX9_closesYear 74 = .ok (.iconst 0, 1) := dk_3 (dk_at dksX9_closesYear_3 3 rfl rfl)
theorem dX9_closesYear_75 : decode cX9_closesYear 75 = .ok (.istore_n 2, 1) := dk_61 (dk_at dksX9_closesYear_3 4 rfl rfl)
theorem dX9_closesYear_76 : decode cX9_closesYear 76 = .ok (.iload_n 2, 1) := dk_28 (dk_at dksX9_closesYear_3 5 rfl rfl)
theorem dX9_closesYear_77 : decode cX9_closesYear 77 = .ok (.aload_n 0, 1) := dk_42 (dk_at dksX9_closesYear_3 6 rfl rfl)
theorem dX9_closesYear_78 : decode cX9_closesYear 78 = .ok (.sipush 1865, 3) := dk_17 7 73 (dk_at dksX9_closesYear_3 7 rfl rfl)
theorem dX9_closesYear_81 : decode cX9_closesYear 81 = .ok (.invokevirtual 174, 3) := dk_182 0 174 (dk_at dksX9_closesYear_3 10 rfl rfl)
theorem dX9_closesYear_84 : decode cX9_closesYear 84 = .ok (.if_icmp .ge 15, 3) := dk_162 0 15 (dk_at dksX9_closesYear_3 13 rfl rfl)
theorem dX9_closesYear_87 : decode cX9_closesYear 87 = .ok (.aload_n 0, 1) := dk_42 (dk_at dksX9_closesYear_3 16 rfl rfl)
theorem dX9_closesYear_88 : decode cX9_closesYear 88 = .ok (.iload_n 2, 1) := dk_28 (dk_at dksX9_closesYear_3 17 rfl rfl)
theorem dX9_closesYear_89 : decode cX9_closesYear 89 = .ok (.iload_n 1, 1) := dk_27 (dk_at dksX9_closesYear_3 18 rfl rfl)
theorem dX9_closesYear_90 : decode cX9_closesYear 90 = .ok (.invokevirtual 264, 3) := dk_182 1 8 (dk_at dksX9_closesYear_3 19 rfl rfl)
theorem dX9_closesYear_93 : decode cX9_closesYear 93 = .ok (.iinc 2 1, 3) := dk_132 2 1 (dk_at dksX9_closesYear_4 0 rfl rfl)
theorem dX9_closesYear_96 : decode cX9_closesYear 96 = .ok (.goto (-20), 3) := dk_167 255 236 (dk_at dksX9_closesYear_4 3 rfl rfl)
theorem dX9_closesYear_99 : decode cX9_closesYear 99 = .ok (.return_, 1) := dk_177 (dk_at dksX9_closesYear_4 6 rfl rfl)
abbrev cX9_layYear : ByteArray := prog_17_method_52_code
def yX9_layYear : MethodName := ⟨RX9, "layYear", "(II)V"⟩
def dkwX9_layYear_1 : List UInt8 := [132, 3, 1, 167, 255, 238, 42, 27, 182, 0, 218, 177]
abbrev dktX9_layYear_1 : List UInt8 := dkwX9_layYear_1 ++ []
def dkwX9_layYear_0 : List UInt8 := [42, 182, 0, 212, 7, 28, 104, 62, 29, 7, 28, 104, 7, 96, 162, 0, 15, 42, 27, 29, 182, 0, 215]
abbrev dktX9_layYear_0 : List UInt8 := dkwX9_layYear_0 ++ dktX9_layYear_1
theorem dksX9_layYear_0 : cX9_layYear.data.toList.drop 0 = dktX9_layYear_0 := by decide +kernel
theorem dksX9_layYear_1 : cX9_layYear.data.toList.drop 23 = dktX9_layYear_1 := dk_seg dksX9_layYear_0 23 rfl rfl
theorem dX9_layYear_0 : decode cX9_layYear 0 = .ok (.aload_n 0, 1) := dk_42 (dk_at dksX9_layYear_0 0 rfl rfl)
theorem dX9_layYear_1 : decode cX9_layYear 1 = .ok (.invokevirtual 212, 3) := dk_182 0 212 (dk_at dksX9_layYear_0 1 rfl rfl)
theorem dX9_layYear_4 : decode cX9_layYear 4 = .ok (.iconst 4, 1) := dk_7 (dk_at dksX9_layYear_0 4 rfl rfl)
theorem dX9_layYear_5 : decode cX9_layYear 5 = .ok (.iload_n 2, 1) := dk_28 (dk_at dksX9_layYear_0 5 rfl rfl)
theorem dX9_layYear_6 : decode cX9_layYear 6 = .ok (.imul, 1) := dk_104 (dk_at dksX9_layYear_0 6 rfl rfl)
theorem dX9_layYear_7 : decode cX9_layYear 7 = .ok (.istore_n 3, 1) := dk_62 (dk_at dksX9_layYear_0 7 rfl rfl)
theorem dX9_layYear_8 : decode cX9_layYear 8 = .ok (.iload_n 3, 1) := dk_29 (dk_at dksX9_layYear_0 8 rfl rfl)
theorem dX9_layYear_9 : decode cX9_layYear 9 = .ok (.iconst 4, 1) := dk_7 (dk_at dksX9_layYear_0 9 rfl rfl)
theorem dX9_layYear_10 : decode cX9_layYear 10 = .ok (.iload_n 2, 1) := dk_28 (dk_at dksX9_layYear_0 10 rfl rfl)
theorem dX9_layYear_11 : decode cX9_layYear 11 = .ok (.imul, 1) := dk_104 (dk_at dksX9_layYear_0 11 rfl rfl)
theorem dX9_layYear_12 : decode cX9_layYear 12 = .ok (.iconst 4, 1) := dk_7 (dk_at dksX9_layYear_0 12 rfl rfl)
theorem dX9_layYear_13 : decode cX9_layYear 13 = .ok (.iadd, 1) := dk_96 (dk_at dksX9_layYear_0 13 rfl rfl)
theorem dX9_layYear_14 : decode cX9_layYear 14 = .ok (.if_icmp .ge 15, 3) := dk_162 0 15 (dk_at dksX9_layYear_0 14 rfl rfl)
theorem dX9_layYear_17 : decode cX9_layYear 17 = .ok (.aload_n 0, 1) := dk_42 (dk_at dksX9_layYear_0 17 rfl rfl)
theorem dX9_layYear_18 : decode cX9_layYear 18 = .ok (.iload_n 1, 1) := dk_27 (dk_at dksX9_layYear_0 18 rfl rfl)
theorem dX9_layYear_19 : decode cX9_layYear 19 = .ok (.iload_n 3, 1) := dk_29 (dk_at dksX9_layYear_0 19 rfl rfl)
theorem dX9_layYear_20 : decode cX9_layYear 20 = .ok (.invokevirtual 215, 3) := dk_182 0 215 (dk_at dksX9_layYear_0 20 rfl rfl)
theorem dX9_layYear_23 : decode cX9_layYear 23 = .ok (.iinc 3 1, 3) := dk_132 3 1 (dk_at dksX9_layYear_1 0 rfl rfl)
theorem dX9_layYear_26 : decode cX9_layYear 26 = .ok (.goto (-18), 3) := dk_167 255 238 (dk_at dksX9_layYear_1 3 rfl rfl)
theorem dX9_layYear_29 : decode cX9_layYear 29 = .ok (.aload_n 0, 1) := dk_42 (dk_at dksX9_layYear_1 6 rfl rfl)
theorem dX9_layYear_30 : decode cX9_layYear 30 = .ok (.iload_n 1, 1) := dk_27 (dk_at dksX9_layYear_1 7 rfl rfl)
theorem dX9_layYear_31 : decode cX9_layYear 31 = .ok (.invokevirtual 218, 3) := dk_182 0 218 (dk_at dksX9_layYear_1 8 rfl rfl)
theorem dX9_layYear_34 : decode cX9_layYear 34 = .ok (.return_, 1) := dk_177 (dk_at dksX9_layYear_1 11 rfl rfl)
abbrev cX9_bookedIn : ByteArray := prog_17_method_62_code
def yX9_bookedIn : MethodName := ⟨RX9, "bookedIn", "(II)I"⟩
def dkwX9_bookedIn_1 : List UInt8 := [27, 104, 96, 21, 4, 96, 182, 0, 174, 96, 62, 132, 4, 1, 167, 255, 225, 29, 172]
abbrev dktX9_bookedIn_1 : List UInt8 := dkwX9_bookedIn_1 ++ []
def dkwX9_bookedIn_0 : List UInt8 := [3, 62, 7, 28, 104, 54, 4, 21, 4, 7, 28, 104, 7, 96, 162, 0, 27, 29, 42, 17, 6, 9, 16, 64]
abbrev dktX9_bookedIn_0 : List UInt8 := dkwX9_bookedIn_0 ++ dktX9_bookedIn_1
theorem dksX9_bookedIn_0 : cX9_bookedIn.data.toList.drop 0 = dktX9_bookedIn_0 := by decide +kernel
theorem dksX9_bookedIn_1 : cX9_bookedIn.data.toList.drop 24 = dktX9_bookedIn_1 := dk_seg dksX9_bookedIn_0 24 rfl rfl
theorem dX9_bookedIn_0 : decode cX9_bookedIn 0 = .ok (.iconst 0, 1) := dk_3 (dk_at dksX9_bookedIn_0 0 rfl rfl)
theorem dX9_bookedIn_1 : decode cX9_bookedIn 1 = .ok (.istore_n 3, 1) := dk_62 (dk_at dksX9_bookedIn_0 1 rfl rfl)
theorem dX9_bookedIn_2 : decode cX9_bookedIn 2 = .ok (.iconst 4, 1) := dk_7 (dk_at dksX9_bookedIn_0 2 rfl rfl)
theorem dX9_bookedIn_3 : decode cX9_bookedIn 3 = .ok (.iload_n 2, 1) := dk_28 (dk_at dksX9_bookedIn_0 3 rfl rfl)
theorem dX9_bookedIn_4 : decode cX9_bookedIn 4 = .ok (.imul, 1) := dk_104 (dk_at dksX9_bookedIn_0 4 rfl rfl)
theorem dX9_bookedIn_5 : decode cX9_bookedIn 5 = .ok (.istore 4, 2) := dk_54 4 (dk_at dksX9_bookedIn_0 5 rfl rfl)
theorem dX9_bookedIn_7 : decode cX9_bookedIn 7 = .ok (.iload 4, 2) := dk_21 4 (dk_at dksX9_bookedIn_0 7 rfl rfl)
theorem dX9_bookedIn_9 : decode cX9_bookedIn 9 = .ok (.iconst 4, 1) := dk_7 (dk_at dksX9_bookedIn_0 9 rfl rfl)
theorem dX9_bookedIn_10 : decode cX9_bookedIn 10 = .ok (.iload_n 2, 1) := dk_28 (dk_at dksX9_bookedIn_0 10 rfl rfl)
theorem dX9_bookedIn_11 : decode cX9_bookedIn 11 = .ok (.imul, 1) := dk_104 (dk_at dksX9_bookedIn_0 11 rfl rfl)
theorem dX9_bookedIn_12 : decode cX9_bookedIn 12 = .ok (.iconst 4, 1) := dk_7 (dk_at dksX9_bookedIn_0 12 rfl rfl)
theorem dX9_bookedIn_13 : decode cX9_bookedIn 13 = .ok (.iadd, 1) := dk_96 (dk_at dksX9_bookedIn_0 13 rfl rfl)
theorem dX9_bookedIn_14 : decode cX9_bookedIn 14 = .ok (.if_icmp .ge 27, 3) := dk_162 0 27 (dk_at dksX9_bookedIn_0 14 rfl rfl)
theorem dX9_bookedIn_17 : decode cX9_bookedIn 17 = .ok (.iload_n 3, 1) := dk_29 (dk_at dksX9_bookedIn_0 17 rfl rfl)
theorem dX9_bookedIn_18 : decode cX9_bookedIn 18 = .ok (.aload_n 0, 1) := dk_42 (dk_at dksX9_bookedIn_0 18 rfl rfl)
theorem dX9_bookedIn_19 : decode cX9_bookedIn 19 = .ok (.sipush 1545, 3) := dk_17 6 9 (dk_at dksX9_bookedIn_0 19 rfl rfl)
theorem dX9_bookedIn_22 : decode cX9_bookedIn 22 = .ok (.bipush 64, 2) := dk_16 64 (dk_at dksX9_bookedIn_0 22 rfl rfl)
theorem dX9_bookedIn_24 : decode cX9_bookedIn 24 = .ok (.iload_n 1, 1) := dk_27 (dk_at dksX9_bookedIn_1 0 rfl rfl)
theorem dX9_bookedIn_25 : decode cX9_bookedIn 25 = .ok (.imul, 1) := dk_104 (dk_at dksX9_bookedIn_1 1 rfl rfl)
theorem dX9_bookedIn_26 : decode cX9_bookedIn 26 = .ok (.iadd, 1) := dk_96 (dk_at dksX9_bookedIn_1 2 rfl rfl)
theorem dX9_bookedIn_27 : decode cX9_bookedIn 27 = .ok (.iload 4, 2) := dk_21 4 (dk_at dksX9_bookedIn_1 3 rfl rfl)
theorem dX9_bookedIn_29 : decode cX9_bookedIn 29 = .ok (.iadd, 1) := dk_96 (dk_at dksX9_bookedIn_1 5 rfl rfl)
theorem dX9_bookedIn_30 : decode cX9_bookedIn 30 = .ok (.invokevirtual 174, 3) := dk_182 0 174 (dk_at dksX9_bookedIn_1 6 rfl rfl)
theorem dX9_bookedIn_33 : decode cX9_bookedIn 33 = .ok (.iadd, 1) := dk_96 (dk_at dksX9_bookedIn_1 9 rfl rfl)
theorem dX9_bookedIn_34 : decode cX9_bookedIn 34 = .ok (.istore_n 3, 1) := dk_62 (dk_at dksX9_bookedIn_1 10 rfl rfl)
theorem dX9_bookedIn_35 : decode cX9_bookedIn 35 = .ok (.iinc 4 1, 3) := dk_132 4 1 (dk_at dksX9_bookedIn_1 11 rfl rfl)
theorem dX9_bookedIn_38 : decode cX9_bookedIn 38 = .ok (.goto (-31), 3) := dk_167 255 225 (dk_at dksX9_bookedIn_1 14 rfl rfl)
theorem dX9_bookedIn_41 : decode cX9_bookedIn 41 = .ok (.iload_n 3, 1) := dk_29 (dk_at dksX9_bookedIn_1 17 rfl rfl)
theorem dX9_bookedIn_42 : decode cX9_bookedIn 42 = .ok (.ireturn, 1) := dk_172 (dk_at dksX9_bookedIn_1 18 rfl rfl)
abbrev cX9_closesAsset : ByteArray := prog_17_method_68_code
def yX9_closesAsset : MethodName := ⟨RX9, "closesAsset", "(II)V"⟩
def dkwX9_closesAsset_11 : List UInt8 := [154, 0, 11, 42, 27, 16, 9, 4, 182, 0, 191, 42, 27, 3, 42, 27, 4, 182, 1, 0, 182, 0, 191, 177]
abbrev dktX9_closesAsset_11 : List UInt8 := dkwX9_closesAsset_11 ++ []
def dkwX9_closesAsset_10 : List UInt8 := [16, 12, 21, 9, 182, 0, 191, 42, 27, 6, 21, 9, 182, 1, 28, 21, 6, 156, 0, 8, 21, 5]
abbrev dktX9_closesAsset_10 : List UInt8 := dkwX9_closesAsset_10 ++ dktX9_closesAsset_11
def dkwX9_closesAsset_9 : List UInt8 := [16, 8, 182, 1, 0, 133, 167, 0, 5, 22, 7, 136, 54, 9, 42, 27, 16, 11, 4, 182, 0, 191, 42, 27]
abbrev dktX9_closesAsset_9 : List UInt8 := dkwX9_closesAsset_9 ++ dktX9_closesAsset_10
def dkwX9_closesAsset_8 : List UInt8 := [16, 8, 182, 1, 0, 155, 0, 28, 22, 7, 42, 27, 16, 8, 182, 1, 0, 133, 148, 158, 0, 14, 42, 27]
abbrev dktX9_closesAsset_8 : List UInt8 := dkwX9_closesAsset_8 ++ dktX9_closesAsset_9
def dkwX9_closesAsset_7 : List UInt8 := [160, 0, 86, 42, 27, 21, 5, 21, 6, 42, 27, 16, 6, 182, 1, 0, 182, 1, 31, 55, 7, 42, 27]
abbrev dktX9_closesAsset_7 : List UInt8 := dkwX9_closesAsset_7 ++ dktX9_closesAsset_8
def dkwX9_closesAsset_6 : List UInt8 := [100, 54, 5, 42, 27, 16, 7, 182, 1, 0, 4, 100, 54, 6, 21, 6, 153, 0, 9, 21, 6, 4]
abbrev dktX9_closesAsset_6 : List UInt8 := dkwX9_closesAsset_6 ++ dktX9_closesAsset_7
def dkwX9_closesAsset_5 : List UInt8 := [29, 96, 21, 5, 182, 0, 191, 42, 27, 5, 21, 5, 182, 1, 28, 42, 27, 7, 182, 1, 0, 4, 100, 29]
abbrev dktX9_closesAsset_5 : List UInt8 := dkwX9_closesAsset_5 ++ dktX9_closesAsset_6
def dkwX9_closesAsset_4 : List UInt8 := [167, 0, 39, 42, 27, 21, 4, 42, 27, 16, 6, 182, 1, 0, 182, 1, 24, 136, 54, 5, 42, 27, 16, 27]
abbrev dktX9_closesAsset_4 : List UInt8 := dkwX9_closesAsset_4 ++ dktX9_closesAsset_5
def dkwX9_closesAsset_3 : List UInt8 := [42, 27, 16, 6, 21, 4, 182, 0, 191, 42, 27, 16, 10, 42, 27, 21, 4, 182, 1, 20, 136, 182, 0, 191]
abbrev dktX9_closesAsset_3 : List UInt8 := dkwX9_closesAsset_3 ++ dktX9_closesAsset_4
def dkwX9_closesAsset_2 : List UInt8 := [96, 42, 27, 3, 182, 1, 0, 182, 0, 191, 42, 27, 16, 47, 29, 4, 96, 182, 0, 191, 29, 154, 0, 30]
abbrev dktX9_closesAsset_2 : List UInt8 := dkwX9_closesAsset_2 ++ dktX9_closesAsset_3
def dkwX9_closesAsset_1 : List UInt8 := [182, 1, 0, 182, 1, 17, 54, 4, 42, 27, 16, 17, 29, 96, 21, 4, 182, 0, 191, 42, 27, 16, 37, 29]
abbrev dktX9_closesAsset_1 : List UInt8 := dkwX9_closesAsset_1 ++ dktX9_closesAsset_2
def dkwX9_closesAsset_0 : List UInt8 := [42, 27, 16, 9, 182, 1, 0, 4, 160, 0, 4, 177, 42, 27, 28, 182, 1, 14, 62, 42, 27, 42, 27, 5]
abbrev dktX9_closesAsset_0 : List UInt8 := dkwX9_closesAsset_0 ++ dktX9_closesAsset_1
theorem dksX9_closesAsset_0 : cX9_closesAsset.data.toList.drop 0 = dktX9_closesAsset_0 := by decide +kernel
theorem dksX9_closesAsset_1 : cX9_closesAsset.data.toList.drop 24 = dktX9_closesAsset_1 := dk_seg dksX9_closesAsset_0 24 rfl rfl
theorem dksX9_closesAsset_2 : cX9_closesAsset.data.toList.drop 48 = dktX9_closesAsset_2 := dk_seg dksX9_closesAsset_1 24 rfl rfl
theorem dksX9_closesAsset_3 : cX9_closesAsset.data.toList.drop 72 = dktX9_closesAsset_3 := dk_seg dksX9_closesAsset_2 24 rfl rfl
theorem dksX9_closesAsset_4 : cX9_closesAsset.data.toList.drop 96 = dktX9_closesAsset_4 := dk_seg dksX9_closesAsset_3 24 rfl rfl
theorem dksX9_closesAsset_5 : cX9_closesAsset.data.toList.drop 120 = dktX9_closesAsset_5 := dk_seg dksX9_closesAsset_4 24 rfl rfl
theorem dksX9_closesAsset_6 : cX9_closesAsset.data.toList.drop 144 = dktX9_closesAsset_6 := dk_seg dksX9_closesAsset_5 24 rfl rfl
theorem dksX9_closesAsset_7 : cX9_closesAsset.data.toList.drop 166 = dktX9_closesAsset_7 := dk_seg dksX9_closesAsset_6 22 rfl rfl
theorem dksX9_closesAsset_8 : cX9_closesAsset.data.toList.drop 189 = dktX9_closesAsset_8 := dk_seg dksX9_closesAsset_7 23 rfl rfl
theorem dksX9_closesAsset_9 : cX9_closesAsset.data.toList.drop 213 = dktX9_closesAsset_9 := dk_seg dksX9_closesAsset_8 24 rfl rfl
theorem dksX9_closesAsset_10 : cX9_closesAsset.data.toList.drop 237 = dktX9_closesAsset_10 := dk_seg dksX9_closesAsset_9 24 rfl rfl
theorem dksX9_closesAsset_11 : cX9_closesAsset.data.toList.drop 259 = dktX9_closesAsset_11 := dk_seg dksX9_closesAsset_10 22 rfl rfl
theorem dX9_closesAsset_0 : decode cX9_closesAsset 0 = .ok (.aload_n 0, 1) := dk_42 (dk_at dksX9_closesAsset_0 0 rfl rfl)
theorem dX9_closesAsset_1 : decode cX9_closesAsset 1 = .ok (.iload_n 1, 1) := dk_27 (dk_at dksX9_closesAsset_0 1 rfl rfl)
theorem dX9_closesAsset_2 : decode cX9_closesAsset 2 = .ok (.bipush 9, 2) := dk_16 9 (dk_at dksX9_closesAsset_0 2 rfl rfl)
theorem dX9_closesAsset_4 : decode cX9_closesAsset 4 = .ok (.invokevirtual 256, 3) := dk_182 1 0 (dk_at dksX9_closesAsset_0 4 rfl rfl)
theorem dX9_closesAsset_7 : decode cX9_closesAsset 7 = .ok (.iconst 1, 1) := dk_4 (dk_at dksX9_closesAsset_0 7 rfl rfl)
theorem dX9_closesAsset_8 : decode cX9_closesAsset 8 = .ok (.if_icmp .ne 4, 3) := dk_160 0 4 (dk_at dksX9_closesAsset_0 8 rfl rfl)
theorem dX9_closesAsset_11 : decode cX9_closesAsset 11 = .ok (.return_, 1) := dk_177 (dk_at dksX9_closesAsset_0 11 rfl rfl)
theorem dX9_closesAsset_12 : decode cX9_closesAsset 12 = .ok (.aload_n 0, 1) := dk_42 (dk_at dksX9_closesAsset_0 12 rfl rfl)
theorem dX9_closesAsset_13 : decode cX9_closesAsset 13 = .ok (.iload_n 1, 1) := dk_27 (dk_at dksX9_closesAsset_0 13 rfl rfl)
theorem dX9_closesAsset_14 : decode cX9_closesAsset 14 = .ok (.iload_n 2, 1) := dk_28 (dk_at dksX9_closesAsset_0 14 rfl rfl)
theorem dX9_closesAsset_15 : decode cX9_closesAsset 15 = .ok (.invokevirtual 270, 3) := dk_182 1 14 (dk_at dksX9_closesAsset_0 15 rfl rfl)
theorem dX9_closesAsset_18 : decode cX9_closesAsset 18 = .ok (.istore_n 3, 1) := dk_62 (dk_at dksX9_closesAsset_0 18 rfl rfl)
theorem dX9_closesAsset_19 : decode cX9_closesAsset 19 = .ok (.aload_n 0, 1) := dk_42 (dk_at dksX9_closesAsset_0 19 rfl rfl)
theorem dX9_closesAsset_20 : decode cX9_closesAsset 20 = .ok (.iload_n 1, 1) := dk_27 (dk_at dksX9_closesAsset_0 20 rfl rfl)
theorem dX9_closesAsset_21 : decode cX9_closesAsset 21 = .ok (.aload_n 0, 1) := dk_42 (dk_at dksX9_closesAsset_0 21 rfl rfl)
theorem dX9_closesAsset_22 : decode cX9_closesAsset 22 = .ok (.iload_n 1, 1) := dk_27 (dk_at dksX9_closesAsset_0 22 rfl rfl)
theorem dX9_closesAsset_23 : decode cX9_closesAsset 23 = .ok (.iconst 2, 1) := dk_5 (dk_at dksX9_closesAsset_0 23 rfl rfl)
theorem dX9_closesAsset_24 : decode cX9_closesAsset 24 = .ok (.invokevirtual 256, 3) := dk_182 1 0 (dk_at dksX9_closesAsset_1 0 rfl rfl)
theorem dX9_closesAsset_27 : decode cX9_closesAsset 27 = .ok (.invokevirtual 273, 3) := dk_182 1 17 (dk_at dksX9_closesAsset_1 3 rfl rfl)
theorem dX9_closesAsset_30 : decode cX9_closesAsset 30 = .ok (.istore 4, 2) := dk_54 4 (dk_at dksX9_closesAsset_1 6 rfl rfl)
theorem dX9_closesAsset_32 : decode cX9_closesAsset 32 = .ok (.aload_n 0, 1) := dk_42 (dk_at dksX9_closesAsset_1 8 rfl rfl)
theorem dX9_closesAsset_33 : decode cX9_closesAsset 33 = .ok (.iload_n 1, 1) := dk_27 (dk_at dksX9_closesAsset_1 9 rfl rfl)
theorem dX9_closesAsset_34 : decode cX9_closesAsset 34 = .ok (.bipush 17, 2) := dk_16 17 (dk_at dksX9_closesAsset_1 10 rfl rfl)
theorem dX9_closesAsset_36 : decode cX9_closesAsset 36 = .ok (.iload_n 3, 1) := dk_29 (dk_at dksX9_closesAsset_1 12 rfl rfl)
theorem dX9_closesAsset_37 : decode cX9_closesAsset 37 = .ok (.iadd, 1) := dk_96 (dk_at dksX9_closesAsset_1 13 rfl rfl)
theorem dX9_closesAsset_38 : decode cX9_closesAsset 38 = .ok (.iload 4, 2) := dk_21 4 (dk_at dksX9_closesAsset_1 14 rfl rfl)
theorem dX9_closesAsset_40 : decode cX9_closesAsset 40 = .ok (.invokevirtual 191, 3) := dk_182 0 191 (dk_at dksX9_closesAsset_1 16 rfl rfl)
theorem dX9_closesAsset_43 : decode cX9_closesAsset 43 = .ok (.aload_n 0, 1) := dk_42 (dk_at dksX9_closesAsset_1 19 rfl rfl)
theorem dX9_closesAsset_44 : decode cX9_closesAsset 44 = .ok (.iload_n 1, 1) := dk_27 (dk_at dksX9_closesAsset_1 20 rfl rfl)
theorem dX9_closesAsset_45 : decode cX9_closesAsset 45 = .ok (.bipush 37, 2) := dk_16 37 (dk_at dksX9_closesAsset_1 21 rfl rfl)
theorem dX9_closesAsset_47 : decode cX9_closesAsset 47 = .ok (.iload_n 3, 1) := dk_29 (dk_at dksX9_closesAsset_1 23 rfl rfl)
theorem dX9_closesAsset_48 : decode cX9_closesAsset 48 = .ok (.iadd, 1) := dk_96 (dk_at dksX9_closesAsset_2 0 rfl rfl)
theorem dX9_closesAsset_49 : decode cX9_closesAsset 49 = .ok (.aload_n 0, 1) := dk_42 (dk_at dksX9_closesAsset_2 1 rfl rfl)
theorem dX9_closesAsset_50 : decode cX9_closesAsset 50 = .ok (.iload_n 1, 1) := dk_27 (dk_at dksX9_closesAsset_2 2 rfl rfl)
theorem dX9_closesAsset_51 : decode cX9_closesAsset 51 = .ok (.iconst 0, 1) := dk_3 (dk_at dksX9_closesAsset_2 3 rfl rfl)
theorem dX9_closesAsset_52 : decode cX9_closesAsset 52 = .ok (.invokevirtual 256, 3) := dk_182 1 0 (dk_at dksX9_closesAsset_2 4 rfl rfl)
theorem dX9_closesAsset_55 : decode cX9_closesAsset 55 = .ok (.invokevirtual 191, 3) := dk_182 0 191 (dk_at dksX9_closesAsset_2 7 rfl rfl)
theorem dX9_closesAsset_58 : decode cX9_closesAsset 58 = .ok (.aload_n 0, 1) := dk_42 (dk_at dksX9_closesAsset_2 10 rfl rfl)
theorem dX9_closesAsset_59 : decode cX9_closesAsset 59 = .ok (.iload_n 1, 1) := dk_27 (dk_at dksX9_closesAsset_2 11 rfl rfl)
theorem dX9_closesAsset_60 : decode cX9_closesAsset 60 = .ok (.bipush 47, 2) := dk_16 47 (dk_at dksX9_closesAsset_2 12 rfl rfl)
theorem dX9_closesAsset_62 : decode cX9_closesAsset 62 = .ok (.iload_n 3, 1) := dk_29 (dk_at dksX9_closesAsset_2 14 rfl rfl)
theorem dX9_closesAsset_63 : decode cX9_closesAsset 63 = .ok (.iconst 1, 1) := dk_4 (dk_at dksX9_closesAsset_2 15 rfl rfl)
theorem dX9_closesAsset_64 : decode cX9_closesAsset 64 = .ok (.iadd, 1) := dk_96 (dk_at dksX9_closesAsset_2 16 rfl rfl)
theorem dX9_closesAsset_65 : decode cX9_closesAsset 65 = .ok (.invokevirtual 191, 3) := dk_182 0 191 (dk_at dksX9_closesAsset_2 17 rfl rfl)
theorem dX9_closesAsset_68 : decode cX9_closesAsset 68 = .ok (.iload_n 3, 1) := dk_29 (dk_at dksX9_closesAsset_2 20 rfl rfl)
theorem dX9_closesAsset_69 : decode cX9_closesAsset 69 = .ok (.ifCond .ne 30, 3) := dk_154 0 30 (dk_at dksX9_closesAsset_2 21 rfl rfl)
theorem dX9_closesAsset_72 : decode cX9_closesAsset 72 = .ok (.aload_n 0, 1) := dk_42 (dk_at dksX9_closesAsset_3 0 rfl rfl)
theorem dX9_closesAsset_73 : decode cX9_closesAsset 73 = .ok (.iload_n 1, 1) := dk_27 (dk_at dksX9_closesAsset_3 1 rfl rfl)
theorem dX9_closesAsset_74 : decode cX9_closesAsset 74 = .ok (.bipush 6, 2) := dk_16 6 (dk_at dksX9_closesAsset_3 2 rfl rfl)
theorem dX9_closesAsset_76 : decode cX9_closesAsset 76 = .ok (.iload 4, 2) := dk_21 4 (dk_at dksX9_closesAsset_3 4 rfl rfl)
theorem dX9_closesAsset_78 : decode cX9_closesAsset 78 = .ok (.invokevirtual 191, 3) := dk_182 0 191 (dk_at dksX9_closesAsset_3 6 rfl rfl)
theorem dX9_closesAsset_81 : decode cX9_closesAsset 81 = .ok (.aload_n 0, 1) := dk_42 (dk_at dksX9_closesAsset_3 9 rfl rfl)
theorem dX9_closesAsset_82 : decode cX9_closesAsset 82 = .ok (.iload_n 1, 1) := dk_27 (dk_at dksX9_closesAsset_3 10 rfl rfl)
theorem dX9_closesAsset_83 : decode cX9_closesAsset 83 = .ok (.bipush 10, 2) := dk_16 10 (dk_at dksX9_closesAsset_3 11 rfl rfl)
theorem dX9_closesAsset_85 : decode cX9_closesAsset 85 = .ok (.aload_n 0, 1) := dk_42 (dk_at dksX9_closesAsset_3 13 rfl rfl)
theorem dX9_closesAsset_86 : decode cX9_closesAsset 86 = .ok (.iload_n 1, 1) := dk_27 (dk_at dksX9_closesAsset_3 14 rfl rfl)
theorem dX9_closesAsset_87 : decode cX9_closesAsset 87 = .ok (.iload 4, 2) := dk_21 4 (dk_at dksX9_closesAsset_3 15 rfl rfl)
theorem dX9_closesAsset_89 : decode cX9_closesAsset 89 = .ok (.invokevirtual 276, 3) := dk_182 1 20 (dk_at dksX9_closesAsset_3 17 rfl rfl)
theorem dX9_closesAsset_92 : decode cX9_closesAsset 92 = .ok (.l2i, 1) := dk_136 (dk_at dksX9_closesAsset_3 20 rfl rfl)
theorem dX9_closesAsset_93 : decode cX9_closesAsset 93 = .ok (.invokevirtual 191, 3) := dk_182 0 191 (dk_at dksX9_closesAsset_3 21 rfl rfl)
theorem dX9_closesAsset_96 : decode cX9_closesAsset 96 = .ok (.goto 39, 3) := dk_167 0 39 (dk_at dksX9_closesAsset_4 0 rfl rfl)
theorem dX9_closesAsset_99 : decode cX9_closesAsset 99 = .ok (.aload_n 0, 1) := dk_42 (dk_at dksX9_closesAsset_4 3 rfl rfl)
theorem dX9_closesAsset_100 : decode cX9_closesAsset 100 = .ok (.iload_n 1, 1) := dk_27 (dk_at dksX9_closesAsset_4 4 rfl rfl)
theorem dX9_closesAsset_101 : decode cX9_closesAsset 101 = .ok (.iload 4, 2) := dk_21 4 (dk_at dksX9_closesAsset_4 5 rfl rfl)
theorem dX9_closesAsset_103 : decode cX9_closesAsset 103 = .ok (.aload_n 0, 1) := dk_42 (dk_at dksX9_closesAsset_4 7 rfl rfl)
theorem dX9_closesAsset_104 : decode cX9_closesAsset 104 = .ok (.iload_n 1, 1) := dk_27 (dk_at dksX9_closesAsset_4 8 rfl rfl)
theorem dX9_closesAsset_105 : decode cX9_closesAsset 105 = .ok (.bipush 6, 2) := dk_16 6 (dk_at dksX9_closesAsset_4 9 rfl rfl)
theorem dX9_closesAsset_107 : decode cX9_closesAsset 107 = .ok (.invokevirtual 256, 3) := dk_182 1 0 (dk_at dksX9_closesAsset_4 11 rfl rfl)
theorem dX9_closesAsset_110 : decode cX9_closesAsset 110 = .ok (.invokevirtual 280, 3) := dk_182 1 24 (dk_at dksX9_closesAsset_4 14 rfl rfl)
theorem dX9_closesAsset_113 : decode cX9_closesAsset 113 = .ok (.l2i, 1) := dk_136 (dk_at dksX9_closesAsset_4 17 rfl rfl)
theorem dX9_closesAsset_114 : decode cX9_closesAsset 114 = .ok (.istore 5, 2) := dk_54 5 (dk_at dksX9_closesAsset_4 18 rfl rfl)
theorem dX9_closesAsset_116 : decode cX9_closesAsset 116 = .ok (.aload_n 0, 1) := dk_42 (dk_at dksX9_closesAsset_4 20 rfl rfl)
theorem dX9_closesAsset_117 : decode cX9_closesAsset 117 = .ok (.iload_n 1, 1) := dk_27 (dk_at dksX9_closesAsset_4 21 rfl rfl)
theorem dX9_closesAsset_118 : decode cX9_closesAsset 118 = .ok (.bipush 27, 2) := dk_16 27 (dk_at dksX9_closesAsset_4 22 rfl rfl)
theorem dX9_closesAsset_120 : decode cX9_closesAsset 120 = .ok (.iload_n 3, 1) := dk_29 (dk_at dksX9_closesAsset_5 0 rfl rfl)
theorem dX9_closesAsset_121 : decode cX9_closesAsset 121 = .ok (.iadd, 1) := dk_96 (dk_at dksX9_closesAsset_5 1 rfl rfl)
theorem dX9_closesAsset_122 : decode cX9_closesAsset 122 = .ok (.iload 5, 2) := dk_21 5 (dk_at dksX9_closesAsset_5 2 rfl rfl)
theorem dX9_closesAsset_124 : decode cX9_closesAsset 124 = .ok (.invokevirtual 191, 3) := dk_182 0 191 (dk_at dksX9_closesAsset_5 4 rfl rfl)
theorem dX9_closesAsset_127 : decode cX9_closesAsset 127 = .ok (.aload_n 0, 1) := dk_42 (dk_at dksX9_closesAsset_5 7 rfl rfl)
theorem dX9_closesAsset_128 : decode cX9_closesAsset 128 = .ok (.iload_n 1, 1) := dk_27 (dk_at dksX9_closesAsset_5 8 rfl rfl)
theorem dX9_closesAsset_129 : decode cX9_closesAsset 129 = .ok (.iconst 2, 1) := dk_5 (dk_at dksX9_closesAsset_5 9 rfl rfl)
theorem dX9_closesAsset_130 : decode cX9_closesAsset 130 = .ok (.iload 5, 2) := dk_21 5 (dk_at dksX9_closesAsset_5 10 rfl rfl)
theorem dX9_closesAsset_132 : decode cX9_closesAsset 132 = .ok (.invokevirtual 284, 3) := dk_182 1 28 (dk_at dksX9_closesAsset_5 12 rfl rfl)
theorem dX9_closesAsset_135 : decode cX9_closesAsset 135 = .ok (.aload_n 0, 1) := dk_42 (dk_at dksX9_closesAsset_5 15 rfl rfl)
theorem dX9_closesAsset_136 : decode cX9_closesAsset 136 = .ok (.iload_n 1, 1) := dk_27 (dk_at dksX9_closesAsset_5 16 rfl rfl)
theorem dX9_closesAsset_137 : decode cX9_closesAsset 137 = .ok (.iconst 4, 1) := dk_7 (dk_at dksX9_closesAsset_5 17 rfl rfl)
theorem dX9_closesAsset_138 : decode cX9_closesAsset 138 = .ok (.invokevirtual 256, 3) := dk_182 1 0 (dk_at dksX9_closesAsset_5 18 rfl rfl)
theorem dX9_closesAsset_141 : decode cX9_closesAsset 141 = .ok (.iconst 1, 1) := dk_4 (dk_at dksX9_closesAsset_5 21 rfl rfl)
theorem dX9_closesAsset_142 : decode cX9_closesAsset 142 = .ok (.isub, 1) := dk_100 (dk_at dksX9_closesAsset_5 22 rfl rfl)
theorem dX9_closesAsset_143 : decode cX9_closesAsset 143 = .ok (.iload_n 3, 1) := dk_29 (dk_at dksX9_closesAsset_5 23 rfl rfl)
theorem dX9_closesAsset_144 : decode cX9_closesAsset 144 = .ok (.isub, 1) := dk_100 (dk_at dksX9_closesAsset_6 0 rfl rfl)
theorem dX9_closesAsset_145 : decode cX9_closesAsset 145 = .ok (.istore 5, 2) := dk_54 5 (dk_at dksX9_closesAsset_6 1 rfl rfl)
theorem dX9_closesAsset_147 : decode cX9_closesAsset 147 = .ok (.aload_n 0, 1) := dk_42 (dk_at dksX9_closesAsset_6 3 rfl rfl)
theorem dX9_closesAsset_148 : decode cX9_closesAsset 148 = .ok (.iload_n 1, 1) := dk_27 (dk_at dksX9_closesAsset_6 4 rfl rfl)
theorem dX9_closesAsset_149 : decode cX9_closesAsset 149 = .ok (.bipush 7, 2) := dk_16 7 (dk_at dksX9_closesAsset_6 5 rfl rfl)
theorem dX9_closesAsset_151 : decode cX9_closesAsset 151 = .ok (.invokevirtual 256, 3) := dk_182 1 0 (dk_at dksX9_closesAsset_6 7 rfl rfl)
theorem dX9_closesAsset_154 : decode cX9_closesAsset 154 = .ok (.iconst 1, 1) := dk_4 (dk_at dksX9_closesAsset_6 10 rfl rfl)
theorem dX9_closesAsset_155 : decode cX9_closesAsset 155 = .ok (.isub, 1) := dk_100 (dk_at dksX9_closesAsset_6 11 rfl rfl)
theorem dX9_closesAsset_156 : decode cX9_closesAsset 156 = .ok (.istore 6, 2) := dk_54 6 (dk_at dksX9_closesAsset_6 12 rfl rfl)
theorem dX9_closesAsset_158 : decode cX9_closesAsset 158 = .ok (.iload 6, 2) := dk_21 6 (dk_at dksX9_closesAsset_6 14 rfl rfl)
theorem dX9_closesAsset_160 : decode cX9_closesAsset 160 = .ok (.ifCond .eq 9, 3) := dk_153 0 9 (dk_at dksX9_closesAsset_6 16 rfl rfl)
theorem dX9_closesAsset_163 : decode cX9_closesAsset 163 = .ok (.iload 6, 2) := dk_21 6 (dk_at dksX9_closesAsset_6 19 rfl rfl)
theorem dX9_closesAsset_165 : decode cX9_closesAsset 165 = .ok (.iconst 1, 1) := dk_4 (dk_at dksX9_closesAsset_6 21 rfl rfl)
theorem dX9_closesAsset_166 : decode cX9_closesAsset 166 = .ok (.if_icmp .ne 86, 3) := dk_160 0 86 (dk_at dksX9_closesAsset_7 0 rfl rfl)
theorem dX9_closesAsset_169 : decode cX9_closesAsset 169 = .ok (.aload_n 0, 1) := dk_42 (dk_at dksX9_closesAsset_7 3 rfl rfl)
theorem dX9_closesAsset_170 : decode cX9_closesAsset 170 = .ok (.iload_n 1, 1) := dk_27 (dk_at dksX9_closesAsset_7 4 rfl rfl)
theorem dX9_closesAsset_171 : decode cX9_closesAsset 171 = .ok (.iload 5, 2) := dk_21 5 (dk_at dksX9_closesAsset_7 5 rfl rfl)
theorem dX9_closesAsset_173 : decode cX9_closesAsset 173 = .ok (.iload 6, 2) := dk_21 6 (dk_at dksX9_closesAsset_7 7 rfl rfl)
theorem dX9_closesAsset_175 : decode cX9_closesAsset 175 = .ok (.aload_n 0, 1) := dk_42 (dk_at dksX9_closesAsset_7 9 rfl rfl)
theorem dX9_closesAsset_176 : decode cX9_closesAsset 176 = .ok (.iload_n 1, 1) := dk_27 (dk_at dksX9_closesAsset_7 10 rfl rfl)
theorem dX9_closesAsset_177 : decode cX9_closesAsset 177 = .ok (.bipush 6, 2) := dk_16 6 (dk_at dksX9_closesAsset_7 11 rfl rfl)
theorem dX9_closesAsset_179 : decode cX9_closesAsset 179 = .ok (.invokevirtual 256, 3) := dk_182 1 0 (dk_at dksX9_closesAsset_7 13 rfl rfl)
theorem dX9_closesAsset_182 : decode cX9_closesAsset 182 = .ok (.invokevirtual 287, 3) := dk_182 1 31 (dk_at dksX9_closesAsset_7 16 rfl rfl)
theorem dX9_closesAsset_185 : decode cX9_closesAsset 185 = .ok (.lstore 7, 2) := dk_55 7 (dk_at dksX9_closesAsset_7 19 rfl rfl)
theorem dX9_closesAsset_187 : decode cX9_closesAsset 187 = .ok (.aload_n 0, 1) := dk_42 (dk_at dksX9_closesAsset_7 21 rfl rfl)
theorem dX9_closesAsset_188 : decode cX9_closesAsset 188 = .ok (.iload_n 1, 1) := dk_27 (dk_at dksX9_closesAsset_7 22 rfl rfl)
theorem dX9_closesAsset_189 : decode cX9_closesAsset 189 = .ok (.bipush 8, 2) := dk_16 8 (dk_at dksX9_closesAsset_8 0 rfl rfl)
theorem dX9_closesAsset_191 : decode cX9_closesAsset 191 = .ok (.invokevirtual 256, 3) := dk_182 1 0 (dk_at dksX9_closesAsset_8 2 rfl rfl)
theorem dX9_closesAsset_194 : decode cX9_closesAsset 194 = .ok (.ifCond .lt 28, 3) := dk_155 0 28 (dk_at dksX9_closesAsset_8 5 rfl rfl)
theorem dX9_closesAsset_197 : decode cX9_closesAsset 197 = .ok (.lload 7, 2) := dk_22 7 (dk_at dksX9_closesAsset_8 8 rfl rfl)
theorem dX9_closesAsset_199 : decode cX9_closesAsset 199 = .ok (.aload_n 0, 1) := dk_42 (dk_at dksX9_closesAsset_8 10 rfl rfl)
theorem dX9_closesAsset_200 : decode cX9_closesAsset 200 = .ok (.iload_n 1, 1) := dk_27 (dk_at dksX9_closesAsset_8 11 rfl rfl)
theorem dX9_closesAsset_201 : decode cX9_closesAsset 201 = .ok (.bipush 8, 2) := dk_16 8 (dk_at dksX9_closesAsset_8 12 rfl rfl)
theorem dX9_closesAsset_203 : decode cX9_closesAsset 203 = .ok (.invokevirtual 256, 3) := dk_182 1 0 (dk_at dksX9_closesAsset_8 14 rfl rfl)
theorem dX9_closesAsset_206 : decode cX9_closesAsset 206 = .ok (.i2l, 1) := dk_133 (dk_at dksX9_closesAsset_8 17 rfl rfl)
theorem dX9_closesAsset_207 : decode cX9_closesAsset 207 = .ok (.lcmp, 1) := dk_148 (dk_at dksX9_closesAsset_8 18 rfl rfl)
theorem dX9_closesAsset_208 : decode cX9_closesAsset 208 = .ok (.ifCond .le 14, 3) := dk_158 0 14 (dk_at dksX9_closesAsset_8 19 rfl rfl)
theorem dX9_closesAsset_211 : decode cX9_closesAsset 211 = .ok (.aload_n 0, 1) := dk_42 (dk_at dksX9_closesAsset_8 22 rfl rfl)
theorem dX9_closesAsset_212 : decode cX9_closesAsset 212 = .ok (.iload_n 1, 1) := dk_27 (dk_at dksX9_closesAsset_8 23 rfl rfl)
theorem dX9_closesAsset_213 : decode cX9_closesAsset 213 = .ok (.bipush 8, 2) := dk_16 8 (dk_at dksX9_closesAsset_9 0 rfl rfl)
theorem dX9_closesAsset_215 : decode cX9_closesAsset 215 = .ok (.invokevirtual 256, 3) := dk_182 1 0 (dk_at dksX9_closesAsset_9 2 rfl rfl)
theorem dX9_closesAsset_218 : decode cX9_closesAsset 218 = .ok (.i2l, 1) := dk_133 (dk_at dksX9_closesAsset_9 5 rfl rfl)
theorem dX9_closesAsset_219 : decode cX9_closesAsset 219 = .ok (.goto 5, 3) := dk_167 0 5 (dk_at dksX9_closesAsset_9 6 rfl rfl)
theorem dX9_closesAsset_222 : decode cX9_closesAsset 222 = .ok (.lload 7, 2) := dk_22 7 (dk_at dksX9_closesAsset_9 9 rfl rfl)
theorem dX9_closesAsset_224 : decode cX9_closesAsset 224 = .ok (.l2i, 1) := dk_136 (dk_at dksX9_closesAsset_9 11 rfl rfl)
theorem dX9_closesAsset_225 : decode cX9_closesAsset 225 = .ok (.istore 9, 2) := dk_54 9 (dk_at dksX9_closesAsset_9 12 rfl rfl)
theorem dX9_closesAsset_227 : decode cX9_closesAsset 227 = .ok (.aload_n 0, 1) := dk_42 (dk_at dksX9_closesAsset_9 14 rfl rfl)
theorem dX9_closesAsset_228 : decode cX9_closesAsset 228 = .ok (.iload_n 1, 1) := dk_27 (dk_at dksX9_closesAsset_9 15 rfl rfl)
theorem dX9_closesAsset_229 : decode cX9_closesAsset 229 = .ok (.bipush 11, 2) := dk_16 11 (dk_at dksX9_closesAsset_9 16 rfl rfl)
theorem dX9_closesAsset_231 : decode cX9_closesAsset 231 = .ok (.iconst 1, 1) := dk_4 (dk_at dksX9_closesAsset_9 18 rfl rfl)
theorem dX9_closesAsset_232 : decode cX9_closesAsset 232 = .ok (.invokevirtual 191, 3) := dk_182 0 191 (dk_at dksX9_closesAsset_9 19 rfl rfl)
theorem dX9_closesAsset_235 : decode cX9_closesAsset 235 = .ok (.aload_n 0, 1) := dk_42 (dk_at dksX9_closesAsset_9 22 rfl rfl)
theorem dX9_closesAsset_236 : decode cX9_closesAsset 236 = .ok (.iload_n 1, 1) := dk_27 (dk_at dksX9_closesAsset_9 23 rfl rfl)
theorem dX9_closesAsset_237 : decode cX9_closesAsset 237 = .ok (.bipush 12, 2) := dk_16 12 (dk_at dksX9_closesAsset_10 0 rfl rfl)
theorem dX9_closesAsset_239 : decode cX9_closesAsset 239 = .ok (.iload 9, 2) := dk_21 9 (dk_at dksX9_closesAsset_10 2 rfl rfl)
theorem dX9_closesAsset_241 : decode cX9_closesAsset 241 = .ok (.invokevirtual 191, 3) := dk_182 0 191 (dk_at dksX9_closesAsset_10 4 rfl rfl)
theorem dX9_closesAsset_244 : decode cX9_closesAsset 244 = .ok (.aload_n 0, 1) := dk_42 (dk_at dksX9_closesAsset_10 7 rfl rfl)
theorem dX9_closesAsset_245 : decode cX9_closesAsset 245 = .ok (.iload_n 1, 1) := dk_27 (dk_at dksX9_closesAsset_10 8 rfl rfl)
theorem dX9_closesAsset_246 : decode cX9_closesAsset 246 = .ok (.iconst 3, 1) := dk_6 (dk_at dksX9_closesAsset_10 9 rfl rfl)
theorem dX9_closesAsset_247 : decode cX9_closesAsset 247 = .ok (.iload 9, 2) := dk_21 9 (dk_at dksX9_closesAsset_10 10 rfl rfl)
theorem dX9_closesAsset_249 : decode cX9_closesAsset 249 = .ok (.invokevirtual 284, 3) := dk_182 1 28 (dk_at dksX9_closesAsset_10 12 rfl rfl)
theorem dX9_closesAsset_252 : decode cX9_closesAsset 252 = .ok (.iload 6, 2) := dk_21 6 (dk_at dksX9_closesAsset_10 15 rfl rfl)
theorem dX9_closesAsset_254 : decode cX9_closesAsset 254 = .ok (.ifCond .ge 8, 3) := dk_156 0 8 (dk_at dksX9_closesAsset_10 17 rfl rfl)
theorem dX9_closesAsset_257 : decode cX9_closesAsset 257 = .ok (.iload 5, 2) := dk_21 5 (dk_at dksX9_closesAsset_10 20 rfl rfl)
theorem dX9_closesAsset_259 : decode cX9_closesAsset 259 = .ok (.ifCond .ne 11, 3) := dk_154 0 11 (dk_at dksX9_closesAsset_11 0 rfl rfl)
theorem dX9_closesAsset_262 : decode cX9_closesAsset 262 = .ok (.aload_n 0, 1) := dk_42 (dk_at dksX9_closesAsset_11 3 rfl rfl)
theorem dX9_closesAsset_263 : decode cX9_closesAsset 263 = .ok (.iload_n 1, 1) := dk_27 (dk_at dksX9_closesAsset_11 4 rfl rfl)
theorem dX9_closesAsset_264 : decode cX9_closesAsset 264 = .ok (.bipush 9, 2) := dk_16 9 (dk_at dksX9_closesAsset_11 5 rfl rfl)
theorem dX9_closesAsset_266 : decode cX9_closesAsset 266 = .ok (.iconst 1, 1) := dk_4 (dk_at dksX9_closesAsset_11 7 rfl rfl)
theorem dX9_closesAsset_267 : decode cX9_closesAsset 267 = .ok (.invokevirtual 191, 3) := dk_182 0 191 (dk_at dksX9_closesAsset_11 8 rfl rfl)
theorem dX9_closesAsset_270 : decode cX9_closesAsset 270 = .ok (.aload_n 0, 1) := dk_42 (dk_at dksX9_closesAsset_11 11 rfl rfl)
theorem dX9_closesAsset_271 : decode cX9_closesAsset 271 = .ok (.iload_n 1, 1) := dk_27 (dk_at dksX9_closesAsset_11 12 rfl rfl)
theorem dX9_closesAsset_272 : decode cX9_closesAsset 272 = .ok (.iconst 0, 1) := dk_3 (dk_at dksX9_closesAsset_11 13 rfl rfl)
theorem dX9_closesAsset_273 : decode cX9_closesAsset 273 = .ok (.aload_n 0, 1) := dk_42 (dk_at dksX9_closesAsset_11 14 rfl rfl)
theorem dX9_closesAsset_274 : decode cX9_closesAsset 274 = .ok (.iload_n 1, 1) := dk_27 (dk_at dksX9_closesAsset_11 15 rfl rfl)
theorem dX9_closesAsset_275 : decode cX9_closesAsset 275 = .ok (.iconst 1, 1) := dk_4 (dk_at dksX9_closesAsset_11 16 rfl rfl)
theorem dX9_closesAsset_276 : decode cX9_closesAsset 276 = .ok (.invokevirtual 256, 3) := dk_182 1 0 (dk_at dksX9_closesAsset_11 17 rfl rfl)
theorem dX9_closesAsset_279 : decode cX9_closesAsset 279 = .ok (.invokevirtual 191, 3) := dk_182 0 191 (dk_at dksX9_closesAsset_11 20 rfl rfl)
theorem dX9_closesAsset_282 : decode cX9_closesAsset 282 = .ok (.return_, 1) := dk_177 (dk_at dksX9_closesAsset_11 23 rfl rfl)
abbrev cX9_worthBy : ByteArray := prog_17_method_70_code
def yX9_worthBy : MethodName := ⟨RX9, "worthBy", "(II)I"⟩
def dkwX9_worthBy_6 : List UInt8 := [182, 1, 11, 136, 172]
abbrev dktX9_worthBy_6 : List UInt8 := dkwX9_worthBy_6 ++ []
def dkwX9_worthBy_5 : List UInt8 := [160, 0, 7, 9, 167, 0, 5, 29, 133, 97, 55, 5, 132, 7, 1, 167, 255, 192, 42, 22, 5, 20, 1, 38]
abbrev dktX9_worthBy_5 : List UInt8 := dkwX9_worthBy_5 ++ dktX9_worthBy_6
def dkwX9_worthBy_4 : List UInt8 := [54, 8, 22, 5, 21, 8, 154, 0, 13, 42, 180, 0, 32, 4, 46, 133, 167, 0, 15, 21, 8, 4]
abbrev dktX9_worthBy_4 : List UInt8 := dkwX9_worthBy_4 ++ dktX9_worthBy_5
def dkwX9_worthBy_3 : List UInt8 := [162, 0, 64, 21, 7, 21, 4, 162, 0, 16, 42, 27, 16, 13, 21, 7, 96, 182, 1, 0, 167, 0, 4, 28]
abbrev dktX9_worthBy_3 : List UInt8 := dkwX9_worthBy_3 ++ dktX9_worthBy_4
def dkwX9_worthBy_2 : List UInt8 := [167, 0, 13, 28, 4, 160, 0, 7, 3, 167, 0, 4, 29, 172, 9, 55, 5, 3, 54, 7, 21, 7, 7]
abbrev dktX9_worthBy_2 : List UInt8 := dkwX9_worthBy_2 ++ dktX9_worthBy_3
def dkwX9_worthBy_1 : List UInt8 := [42, 27, 42, 182, 0, 233, 182, 1, 14, 154, 0, 27, 28, 154, 0, 12, 42, 180, 0, 32, 4, 46]
abbrev dktX9_worthBy_1 : List UInt8 := dkwX9_worthBy_1 ++ dktX9_worthBy_2
def dkwX9_worthBy_0 : List UInt8 := [42, 42, 27, 3, 182, 1, 0, 42, 182, 0, 233, 182, 1, 35, 62, 42, 3, 182, 0, 174, 7, 112, 54, 4]
abbrev dktX9_worthBy_0 : List UInt8 := dkwX9_worthBy_0 ++ dktX9_worthBy_1
theorem dksX9_worthBy_0 : cX9_worthBy.data.toList.drop 0 = dktX9_worthBy_0 := by decide +kernel
theorem dksX9_worthBy_1 : cX9_worthBy.data.toList.drop 24 = dktX9_worthBy_1 := dk_seg dksX9_worthBy_0 24 rfl rfl
theorem dksX9_worthBy_2 : cX9_worthBy.data.toList.drop 46 = dktX9_worthBy_2 := dk_seg dksX9_worthBy_1 22 rfl rfl
theorem dksX9_worthBy_3 : cX9_worthBy.data.toList.drop 69 = dktX9_worthBy_3 := dk_seg dksX9_worthBy_2 23 rfl rfl
theorem dksX9_worthBy_4 : cX9_worthBy.data.toList.drop 93 = dktX9_worthBy_4 := dk_seg dksX9_worthBy_3 24 rfl rfl
theorem dksX9_worthBy_5 : cX9_worthBy.data.toList.drop 115 = dktX9_worthBy_5 := dk_seg dksX9_worthBy_4 22 rfl rfl
theorem dksX9_worthBy_6 : cX9_worthBy.data.toList.drop 139 = dktX9_worthBy_6 := dk_seg dksX9_worthBy_5 24 rfl rfl
theorem dX9_worthBy_0 : decode cX9_worthBy 0 = .ok (.aload_n 0, 1) := dk_42 (dk_at dksX9_worthBy_0 0 rfl rfl)
theorem dX9_worthBy_1 : decode cX9_worthBy 1 = .ok (.aload_n 0, 1) := dk_42 (dk_at dksX9_worthBy_0 1 rfl rfl)
theorem dX9_worthBy_2 : decode cX9_worthBy 2 = .ok (.iload_n 1, 1) := dk_27 (dk_at dksX9_worthBy_0 2 rfl rfl)
theorem dX9_worthBy_3 : decode cX9_worthBy 3 = .ok (.iconst 0, 1) := dk_3 (dk_at dksX9_worthBy_0 3 rfl rfl)
theorem dX9_worthBy_4 : decode cX9_worthBy 4 = .ok (.invokevirtual 256, 3) := dk_182 1 0 (dk_at dksX9_worthBy_0 4 rfl rfl)
theorem dX9_worthBy_7 : decode cX9_worthBy 7 = .ok (.aload_n 0, 1) := dk_42 (dk_at dksX9_worthBy_0 7 rfl rfl)
theorem dX9_worthBy_8 : decode cX9_worthBy 8 = .ok (.invokevirtual 233, 3) := dk_182 0 233 (dk_at dksX9_worthBy_0 8 rfl rfl)
theorem dX9_worthBy_11 : decode cX9_worthBy 11 = .ok (.invokevirtual 291, 3) := dk_182 1 35 (dk_at dksX9_worthBy_0 11 rfl rfl)
theorem dX9_worthBy_14 : decode cX9_worthBy 14 = .ok (.istore_n 3, 1) := dk_62 (dk_at dksX9_worthBy_0 14 rfl rfl)
theorem dX9_worthBy_15 : decode cX9_worthBy 15 = .ok (.aload_n 0, 1) := dk_42 (dk_at dksX9_worthBy_0 15 rfl rfl)
theorem dX9_worthBy_16 : decode cX9_worthBy 16 = .ok (.iconst 0, 1) := dk_3 (dk_at dksX9_worthBy_0 16 rfl rfl)
theorem dX9_worthBy_17 : decode cX9_worthBy 17 = .ok (.invokevirtual 174, 3) := dk_182 0 174 (dk_at dksX9_worthBy_0 17 rfl rfl)
theorem dX9_worthBy_20 : decode cX9_worthBy 20 = .ok (.iconst 4, 1) := dk_7 (dk_at dksX9_worthBy_0 20 rfl rfl)
theorem dX9_worthBy_21 : decode cX9_worthBy 21 = .ok (.irem, 1) := dk_112 (dk_at dksX9_worthBy_0 21 rfl rfl)
theorem dX9_worthBy_22 : decode cX9_worthBy 22 = .ok (.istore 4, 2) := dk_54 4 (dk_at dksX9_worthBy_0 22 rfl rfl)
theorem dX9_worthBy_24 : decode cX9_worthBy 24 = .ok (.aload_n 0, 1) := dk_42 (dk_at dksX9_worthBy_1 0 rfl rfl)
theorem dX9_worthBy_25 : decode cX9_worthBy 25 = .ok (.iload_n 1, 1) := dk_27 (dk_at dksX9_worthBy_1 1 rfl rfl)
theorem dX9_worthBy_26 : decode cX9_worthBy 26 = .ok (.aload_n 0, 1) := dk_42 (dk_at dksX9_worthBy_1 2 rfl rfl)
theorem dX9_worthBy_27 : decode cX9_worthBy 27 = .ok (.invokevirtual 233, 3) := dk_182 0 233 (dk_at dksX9_worthBy_1 3 rfl rfl)
theorem dX9_worthBy_30 : decode cX9_worthBy 30 = .ok (.invokevirtual 270, 3) := dk_182 1 14 (dk_at dksX9_worthBy_1 6 rfl rfl)
theorem dX9_worthBy_33 : decode cX9_worthBy 33 = .ok (.ifCond .ne 27, 3) := dk_154 0 27 (dk_at dksX9_worthBy_1 9 rfl rfl)
theorem dX9_worthBy_36 : decode cX9_worthBy 36 = .ok (.iload_n 2, 1) := dk_28 (dk_at dksX9_worthBy_1 12 rfl rfl)
theorem dX9_worthBy_37 : decode cX9_worthBy 37 = .ok (.ifCond .ne 12, 3) := dk_154 0 12 (dk_at dksX9_worthBy_1 13 rfl rfl)
theorem dX9_worthBy_40 : decode cX9_worthBy 40 = .ok (.aload_n 0, 1) := dk_42 (dk_at dksX9_worthBy_1 16 rfl rfl)
theorem dX9_worthBy_41 : decode cX9_worthBy 41 = .ok (.getfield 32, 3) := dk_180 0 32 (dk_at dksX9_worthBy_1 17 rfl rfl)
theorem dX9_worthBy_44 : decode cX9_worthBy 44 = .ok (.iconst 1, 1) := dk_4 (dk_at dksX9_worthBy_1 20 rfl rfl)
theorem dX9_worthBy_45 : decode cX9_worthBy 45 = .ok (.iaload, 1) := dk_46 (dk_at dksX9_worthBy_1 21 rfl rfl)
theorem dX9_worthBy_46 : decode cX9_worthBy 46 = .ok (.goto 13, 3) := dk_167 0 13 (dk_at dksX9_worthBy_2 0 rfl rfl)
theorem dX9_worthBy_49 : decode cX9_worthBy 49 = .ok (.iload_n 2, 1) := dk_28 (dk_at dksX9_worthBy_2 3 rfl rfl)
theorem dX9_worthBy_50 : decode cX9_worthBy 50 = .ok (.iconst 1, 1) := dk_4 (dk_at dksX9_worthBy_2 4 rfl rfl)
theorem dX9_worthBy_51 : decode cX9_worthBy 51 = .ok (.if_icmp .ne 7, 3) := dk_160 0 7 (dk_at dksX9_worthBy_2 5 rfl rfl)
theorem dX9_worthBy_54 : decode cX9_worthBy 54 = .ok (.iconst 0, 1) := dk_3 (dk_at dksX9_worthBy_2 8 rfl rfl)
theorem dX9_worthBy_55 : decode cX9_worthBy 55 = .ok (.goto 4, 3) := dk_167 0 4 (dk_at dksX9_worthBy_2 9 rfl rfl)
theorem dX9_worthBy_58 : decode cX9_worthBy 58 = .ok (.iload_n 3, 1) := dk_29 (dk_at dksX9_worthBy_2 12 rfl rfl)
theorem dX9_worthBy_59 : decode cX9_worthBy 59 = .ok (.ireturn, 1) := dk_172 (dk_at dksX9_worthBy_2 13 rfl rfl)
theorem dX9_worthBy_60 : decode cX9_worthBy 60 = .ok (.lconst 0, 1) := dk_9 (dk_at dksX9_worthBy_2 14 rfl rfl)
theorem dX9_worthBy_61 : decode cX9_worthBy 61 = .ok (.lstore 5, 2) := dk_55 5 (dk_at dksX9_worthBy_2 15 rfl rfl)
theorem dX9_worthBy_63 : decode cX9_worthBy 63 = .ok (.iconst 0, 1) := dk_3 (dk_at dksX9_worthBy_2 17 rfl rfl)
theorem dX9_worthBy_64 : decode cX9_worthBy 64 = .ok (.istore 7, 2) := dk_54 7 (dk_at dksX9_worthBy_2 18 rfl rfl)
theorem dX9_worthBy_66 : decode cX9_worthBy 66 = .ok (.iload 7, 2) := dk_21 7 (dk_at dksX9_worthBy_2 20 rfl rfl)
theorem dX9_worthBy_68 : decode cX9_worthBy 68 = .ok (.iconst 4, 1) := dk_7 (dk_at dksX9_worthBy_2 22 rfl rfl)
theorem dX9_worthBy_69 : decode cX9_worthBy 69 = .ok (.if_icmp .ge 64, 3) := dk_162 0 64 (dk_at dksX9_worthBy_3 0 rfl rfl)
theorem dX9_worthBy_72 : decode cX9_worthBy 72 = .ok (.iload 7, 2) := dk_21 7 (dk_at dksX9_worthBy_3 3 rfl rfl)
theorem dX9_worthBy_74 : decode cX9_worthBy 74 = .ok (.iload 4, 2) := dk_21 4 (dk_at dksX9_worthBy_3 5 rfl rfl)
theorem dX9_worthBy_76 : decode cX9_worthBy 76 = .ok (.if_icmp .ge 16, 3) := dk_162 0 16 (dk_at dksX9_worthBy_3 7 rfl rfl)
theorem dX9_worthBy_79 : decode cX9_worthBy 79 = .ok (.aload_n 0, 1) := dk_42 (dk_at dksX9_worthBy_3 10 rfl rfl)
theorem dX9_worthBy_80 : decode cX9_worthBy 80 = .ok (.iload_n 1, 1) := dk_27 (dk_at dksX9_worthBy_3 11 rfl rfl)
theorem dX9_worthBy_81 : decode cX9_worthBy 81 = .ok (.bipush 13, 2) := dk_16 13 (dk_at dksX9_worthBy_3 12 rfl rfl)
theorem dX9_worthBy_83 : decode cX9_worthBy 83 = .ok (.iload 7, 2) := dk_21 7 (dk_at dksX9_worthBy_3 14 rfl rfl)
theorem dX9_worthBy_85 : decode cX9_worthBy 85 = .ok (.iadd, 1) := dk_96 (dk_at dksX9_worthBy_3 16 rfl rfl)
theorem dX9_worthBy_86 : decode cX9_worthBy 86 = .ok (.invokevirtual 256, 3) := dk_182 1 0 (dk_at dksX9_worthBy_3 17 rfl rfl)
theorem dX9_worthBy_89 : decode cX9_worthBy 89 = .ok (.goto 4, 3) := dk_167 0 4 (dk_at dksX9_worthBy_3 20 rfl rfl)
theorem dX9_worthBy_92 : decode cX9_worthBy 92 = .ok (.iload_n 2, 1) := dk_28 (dk_at dksX9_worthBy_3 23 rfl rfl)
theorem dX9_worthBy_93 : decode cX9_worthBy 93 = .ok (.istore 8, 2) := dk_54 8 (dk_at dksX9_worthBy_4 0 rfl rfl)
theorem dX9_worthBy_95 : decode cX9_worthBy 95 = .ok (.lload 5, 2) := dk_22 5 (dk_at dksX9_worthBy_4 2 rfl rfl)
theorem dX9_worthBy_97 : decode cX9_worthBy 97 = .ok (.iload 8, 2) := dk_21 8 (dk_at dksX9_worthBy_4 4 rfl rfl)
theorem dX9_worthBy_99 : decode cX9_worthBy 99 = .ok (.ifCond .ne 13, 3) := dk_154 0 13 (dk_at dksX9_worthBy_4 6 rfl rfl)
theorem dX9_worthBy_102 : decode cX9_worthBy 102 = .ok (.aload_n 0, 1) := dk_42 (dk_at dksX9_worthBy_4 9 rfl rfl)
theorem dX9_worthBy_103 : decode cX9_worthBy 103 = .ok (.getfield 32, 3) := dk_180 0 32 (dk_at dksX9_worthBy_4 10 rfl rfl)
theorem dX9_worthBy_106 : decode cX9_worthBy 106 = .ok (.iconst 1, 1) := dk_4 (dk_at dksX9_worthBy_4 13 rfl rfl)
theorem dX9_worthBy_107 : decode cX9_worthBy 107 = .ok (.iaload, 1) := dk_46 (dk_at dksX9_worthBy_4 14 rfl rfl)
theorem dX9_worthBy_108 : decode cX9_worthBy 108 = .ok (.i2l, 1) := dk_133 (dk_at dksX9_worthBy_4 15 rfl rfl)
theorem dX9_worthBy_109 : decode cX9_worthBy 109 = .ok (.goto 15, 3) := dk_167 0 15 (dk_at dksX9_worthBy_4 16 rfl rfl)
theorem dX9_worthBy_112 : decode cX9_worthBy 112 = .ok (.iload 8, 2) := dk_21 8 (dk_at dksX9_worthBy_4 19 rfl rfl)
theorem dX9_worthBy_114 : decode cX9_worthBy 114 = .ok (.iconst 1, 1) := dk_4 (dk_at dksX9_worthBy_4 21 rfl rfl)
theorem dX9_worthBy_115 : decode cX9_worthBy 115 = .ok (.if_icmp .ne 7, 3) := dk_160 0 7 (dk_at dksX9_worthBy_5 0 rfl rfl)
theorem dX9_worthBy_118 : decode cX9_worthBy 118 = .ok (.lconst 0, 1) := dk_9 (dk_at dksX9_worthBy_5 3 rfl rfl)
theorem dX9_worthBy_119 : decode cX9_worthBy 119 = .ok (.goto 5, 3) := dk_167 0 5 (dk_at dksX9_worthBy_5 4 rfl rfl)
theorem dX9_worthBy_122 : decode cX9_worthBy 122 = .ok (.iload_n 3, 1) := dk_29 (dk_at dksX9_worthBy_5 7 rfl rfl)
theorem dX9_worthBy_123 : decode cX9_worthBy 123 = .ok (.i2l, 1) := dk_133 (dk_at dksX9_worthBy_5 8 rfl rfl)
theorem dX9_worthBy_124 : decode cX9_worthBy 124 = .ok (.ladd, 1) := dk_97 (dk_at dksX9_worthBy_5 9 rfl rfl)
theorem dX9_worthBy_125 : decode cX9_worthBy 125 = .ok (.lstore 5, 2) := dk_55 5 (dk_at dksX9_worthBy_5 10 rfl rfl)
theorem dX9_worthBy_127 : decode cX9_worthBy 127 = .ok (.iinc 7 1, 3) := dk_132 7 1 (dk_at dksX9_worthBy_5 12 rfl rfl)
theorem dX9_worthBy_130 : decode cX9_worthBy 130 = .ok (.goto (-64), 3) := dk_167 255 192 (dk_at dksX9_worthBy_5 15 rfl rfl)
theorem dX9_worthBy_133 : decode cX9_worthBy 133 = .ok (.aload_n 0, 1) := dk_42 (dk_at dksX9_worthBy_5 18 rfl rfl)
theorem dX9_worthBy_134 : decode cX9_worthBy 134 = .ok (.lload 5, 2) := dk_22 5 (dk_at dksX9_worthBy_5 19 rfl rfl)
theorem dX9_worthBy_136 : decode cX9_worthBy 136 = .ok (.ldc2_w 294, 3) := dk_20 1 38 (dk_at dksX9_worthBy_5 21 rfl rfl)
theorem dX9_worthBy_139 : decode cX9_worthBy 139 = .ok (.invokevirtual 267, 3) := dk_182 1 11 (dk_at dksX9_worthBy_6 0 rfl rfl)
theorem dX9_worthBy_142 : decode cX9_worthBy 142 = .ok (.l2i, 1) := dk_136 (dk_at dksX9_worthBy_6 3 rfl rfl)
theorem dX9_worthBy_143 : decode cX9_worthBy 143 = .ok (.ireturn, 1) := dk_172 (dk_at dksX9_worthBy_6 4 rfl rfl)
abbrev cX9_annualOf : ByteArray := prog_17_method_57_code
def yX9_annualOf : MethodName := ⟨RX9, "annualOf", "(II)I"⟩
def dkwX9_annualOf_1 : List UInt8 := [96, 182, 0, 174, 167, 0, 8, 42, 27, 182, 0, 237, 172]
abbrev dktX9_annualOf_1 : List UInt8 := dkwX9_annualOf_1 ++ []
def dkwX9_annualOf_0 : List UInt8 := [42, 27, 28, 182, 0, 230, 28, 42, 182, 0, 233, 162, 0, 20, 42, 17, 7, 9, 16, 16, 27, 104, 96, 28]
abbrev dktX9_annualOf_0 : List UInt8 := dkwX9_annualOf_0 ++ dktX9_annualOf_1
theorem dksX9_annualOf_0 : cX9_annualOf.data.toList.drop 0 = dktX9_annualOf_0 := by decide +kernel
theorem dksX9_annualOf_1 : cX9_annualOf.data.toList.drop 24 = dktX9_annualOf_1 := dk_seg dksX9_annualOf_0 24 rfl rfl
theorem dX9_annualOf_0 : decode cX9_annualOf 0 = .ok (.aload_n 0, 1) := dk_42 (dk_at dksX9_annualOf_0 0 rfl rfl)
theorem dX9_annualOf_1 : decode cX9_annualOf 1 = .ok (.iload_n 1, 1) := dk_27 (dk_at dksX9_annualOf_0 1 rfl rfl)
theorem dX9_annualOf_2 : decode cX9_annualOf 2 = .ok (.iload_n 2, 1) := dk_28 (dk_at dksX9_annualOf_0 2 rfl rfl)
theorem dX9_annualOf_3 : decode cX9_annualOf 3 = .ok (.invokevirtual 230, 3) := dk_182 0 230 (dk_at dksX9_annualOf_0 3 rfl rfl)
theorem dX9_annualOf_6 : decode cX9_annualOf 6 = .ok (.iload_n 2, 1) := dk_28 (dk_at dksX9_annualOf_0 6 rfl rfl)
theorem dX9_annualOf_7 : decode cX9_annualOf 7 = .ok (.aload_n 0, 1) := dk_42 (dk_at dksX9_annualOf_0 7 rfl rfl)
theorem dX9_annualOf_8 : decode cX9_annualOf 8 = .ok (.invokevirtual 233, 3) := dk_182 0 233 (dk_at dksX9_annualOf_0 8 rfl rfl)
theorem dX9_annualOf_11 : decode cX9_annualOf 11 = .ok (.if_icmp .ge 20, 3) := dk_162 0 20 (dk_at dksX9_annualOf_0 11 rfl rfl)
theorem dX9_annualOf_14 : decode cX9_annualOf 14 = .ok (.aload_n 0, 1) := dk_42 (dk_at dksX9_annualOf_0 14 rfl rfl)
theorem dX9_annualOf_15 : decode cX9_annualOf 15 = .ok (.sipush 1801, 3) := dk_17 7 9 (dk_at dksX9_annualOf_0 15 rfl rfl)
theorem dX9_annualOf_18 : decode cX9_annualOf 18 = .ok (.bipush 16, 2) := dk_16 16 (dk_at dksX9_annualOf_0 18 rfl rfl)
theorem dX9_annualOf_20 : decode cX9_annualOf 20 = .ok (.iload_n 1, 1) := dk_27 (dk_at dksX9_annualOf_0 20 rfl rfl)
theorem dX9_annualOf_21 : decode cX9_annualOf 21 = .ok (.imul, 1) := dk_104 (dk_at dksX9_annualOf_0 21 rfl rfl)
theorem dX9_annualOf_22 : decode cX9_annualOf 22 = .ok (.iadd, 1) := dk_96 (dk_at dksX9_annualOf_0 22 rfl rfl)
theorem dX9_annualOf_23 : decode cX9_annualOf 23 = .ok (.iload_n 2, 1) := dk_28 (dk_at dksX9_annualOf_0 23 rfl rfl)
theorem dX9_annualOf_24 : decode cX9_annualOf 24 = .ok (.iadd, 1) := dk_96 (dk_at dksX9_annualOf_1 0 rfl rfl)
theorem dX9_annualOf_25 : decode cX9_annualOf 25 = .ok (.invokevirtual 174, 3) := dk_182 0 174 (dk_at dksX9_annualOf_1 1 rfl rfl)
theorem dX9_annualOf_28 : decode cX9_annualOf 28 = .ok (.goto 8, 3) := dk_167 0 8 (dk_at dksX9_annualOf_1 4 rfl rfl)
theorem dX9_annualOf_31 : decode cX9_annualOf 31 = .ok (.aload_n 0, 1) := dk_42 (dk_at dksX9_annualOf_1 7 rfl rfl)
theorem dX9_annualOf_32 : decode cX9_annualOf 32 = .ok (.iload_n 1, 1) := dk_27 (dk_at dksX9_annualOf_1 8 rfl rfl)
theorem dX9_annualOf_33 : decode cX9_annualOf 33 = .ok (.invokevirtual 237, 3) := dk_182 0 237 (dk_at dksX9_annualOf_1 9 rfl rfl)
theorem dX9_annualOf_36 : decode cX9_annualOf 36 = .ok (.ireturn, 1) := dk_172 (dk_at dksX9_annualOf_1 12 rfl rfl)
abbrev cX9_cut : ByteArray := prog_17_method_47_code
def yX9_cut : MethodName := ⟨RX9, "cut", "(JJ)J"⟩
def dkwX9_cut_0 : List UInt8 := [42, 180, 0, 32, 3, 46, 31, 33, 184, 0, 201, 173]
abbrev dktX9_cut_0 : List UInt8 := dkwX9_cut_0 ++ []
theorem dksX9_cut_0 : cX9_cut.data.toList.drop 0 = dktX9_cut_0 := by decide +kernel
theorem dX9_cut_0 : decode cX9_cut 0 = .ok (.aload_n 0, 1) := dk_42 (dk_at dksX9_cut_0 0 rfl rfl)
theorem dX9_cut_1 : decode cX9_cut 1 = .ok (.getfield 32, 3) := dk_180 0 32 (dk_at dksX9_cut_0 1 rfl rfl)
theorem dX9_cut_4 : decode cX9_cut 4 = .ok (.iconst 0, 1) := dk_3 (dk_at dksX9_cut_0 4 rfl rfl)
theorem dX9_cut_5 : decode cX9_cut 5 = .ok (.iaload, 1) := dk_46 (dk_at dksX9_cut_0 5 rfl rfl)
theorem dX9_cut_6 : decode cX9_cut 6 = .ok (.lload_n 1, 1) := dk_31 (dk_at dksX9_cut_0 6 rfl rfl)
theorem dX9_cut_7 : decode cX9_cut 7 = .ok (.lload_n 3, 1) := dk_33 (dk_at dksX9_cut_0 7 rfl rfl)
theorem dX9_cut_8 : decode cX9_cut 8 = .ok (.invokestatic 201, 3) := dk_184 0 201 (dk_at dksX9_cut_0 8 rfl rfl)
theorem dX9_cut_11 : decode cX9_cut 11 = .ok (.lreturn, 1) := dk_173 (dk_at dksX9_cut_0 11 rfl rfl)
abbrev cX9_firstTaken : ByteArray := prog_17_method_67_code
def yX9_firstTaken : MethodName := ⟨RX9, "firstTaken", "(II)J"⟩
def dkwX9_firstTaken_0 : List UInt8 := [42, 42, 27, 6, 182, 1, 0, 133, 28, 133, 105, 42, 180, 0, 32, 4, 46, 133, 182, 1, 11, 173]
abbrev dktX9_firstTaken_0 : List UInt8 := dkwX9_firstTaken_0 ++ []
theorem dksX9_firstTaken_0 : cX9_firstTaken.data.toList.drop 0 = dktX9_firstTaken_0 := by decide +kernel
theorem dX9_firstTaken_0 : decode cX9_firstTaken 0 = .ok (.aload_n 0, 1) := dk_42 (dk_at dksX9_firstTaken_0 0 rfl rfl)
theorem dX9_firstTaken_1 : decode cX9_firstTaken 1 = .ok (.aload_n 0, 1) := dk_42 (dk_at dksX9_firstTaken_0 1 rfl rfl)
theorem dX9_firstTaken_2 : decode cX9_firstTaken 2 = .ok (.iload_n 1, 1) := dk_27 (dk_at dksX9_firstTaken_0 2 rfl rfl)
theorem dX9_firstTaken_3 : decode cX9_firstTaken 3 = .ok (.iconst 3, 1) := dk_6 (dk_at dksX9_firstTaken_0 3 rfl rfl)
theorem dX9_firstTaken_4 : decode cX9_firstTaken 4 = .ok (.invokevirtual 256, 3) := dk_182 1 0 (dk_at dksX9_firstTaken_0 4 rfl rfl)
theorem dX9_firstTaken_7 : decode cX9_firstTaken 7 = .ok (.i2l, 1) := dk_133 (dk_at dksX9_firstTaken_0 7 rfl rfl)
theorem dX9_firstTaken_8 : decode cX9_firstTaken 8 = .ok (.iload_n 2, 1) := dk_28 (dk_at dksX9_firstTaken_0 8 rfl rfl)
theorem dX9_firstTaken_9 : decode cX9_firstTaken 9 = .ok (.i2l, 1) := dk_133 (dk_at dksX9_firstTaken_0 9 rfl rfl)
theorem dX9_firstTaken_10 : decode cX9_firstTaken 10 = .ok (.lmul, 1) := dk_105 (dk_at dksX9_firstTaken_0 10 rfl rfl)
theorem dX9_firstTaken_11 : decode cX9_firstTaken 11 = .ok (.aload_n 0, 1) := dk_42 (dk_at dksX9_firstTaken_0 11 rfl rfl)
theorem dX9_firstTaken_12 : decode cX9_firstTaken 12 = .ok (.getfield 32, 3) := dk_180 0 32 (dk_at dksX9_firstTaken_0 12 rfl rfl)
theorem dX9_firstTaken_15 : decode cX9_firstTaken 15 = .ok (.iconst 1, 1) := dk_4 (dk_at dksX9_firstTaken_0 15 rfl rfl)
theorem dX9_firstTaken_16 : decode cX9_firstTaken 16 = .ok (.iaload, 1) := dk_46 (dk_at dksX9_firstTaken_0 16 rfl rfl)
theorem dX9_firstTaken_17 : decode cX9_firstTaken 17 = .ok (.i2l, 1) := dk_133 (dk_at dksX9_firstTaken_0 17 rfl rfl)
theorem dX9_firstTaken_18 : decode cX9_firstTaken 18 = .ok (.invokevirtual 267, 3) := dk_182 1 11 (dk_at dksX9_firstTaken_0 18 rfl rfl)
theorem dX9_firstTaken_21 : decode cX9_firstTaken 21 = .ok (.lreturn, 1) := dk_173 (dk_at dksX9_firstTaken_0 21 rfl rfl)
abbrev cX9_adjustedBy : ByteArray := prog_17_method_65_code
def yX9_adjustedBy : MethodName := ⟨RX9, "adjustedBy", "(III)J"⟩
def dkwX9_adjustedBy_1 : List UInt8 := [4, 46, 133, 105, 182, 1, 11, 173]
abbrev dktX9_adjustedBy_1 : List UInt8 := dkwX9_adjustedBy_1 ++ []
def dkwX9_adjustedBy_0 : List UInt8 := [42, 42, 27, 6, 182, 1, 0, 133, 28, 29, 100, 133, 105, 42, 27, 7, 182, 1, 0, 133, 42, 180, 0, 32]
abbrev dktX9_adjustedBy_0 : List UInt8 := dkwX9_adjustedBy_0 ++ dktX9_adjustedBy_1
theorem dksX9_adjustedBy_0 : cX9_adjustedBy.data.toList.drop 0 = dktX9_adjustedBy_0 := by decide +kernel
theorem dksX9_adjustedBy_1 : cX9_adjustedBy.data.toList.drop 24 = dktX9_adjustedBy_1 := dk_seg dksX9_adjustedBy_0 24 rfl rfl
theorem dX9_adjustedBy_0 : decode cX9_adjustedBy 0 = .ok (.aload_n 0, 1) := dk_42 (dk_at dksX9_adjustedBy_0 0 rfl rfl)
theorem dX9_adjustedBy_1 : decode cX9_adjustedBy 1 = .ok (.aload_n 0, 1) := dk_42 (dk_at dksX9_adjustedBy_0 1 rfl rfl)
theorem dX9_adjustedBy_2 : decode cX9_adjustedBy 2 = .ok (.iload_n 1, 1) := dk_27 (dk_at dksX9_adjustedBy_0 2 rfl rfl)
theorem dX9_adjustedBy_3 : decode cX9_adjustedBy 3 = .ok (.iconst 3, 1) := dk_6 (dk_at dksX9_adjustedBy_0 3 rfl rfl)
theorem dX9_adjustedBy_4 : decode cX9_adjustedBy 4 = .ok (.invokevirtual 256, 3) := dk_182 1 0 (dk_at dksX9_adjustedBy_0 4 rfl rfl)
theorem dX9_adjustedBy_7 : decode cX9_adjustedBy 7 = .ok (.i2l, 1) := dk_133 (dk_at dksX9_adjustedBy_0 7 rfl rfl)
theorem dX9_adjustedBy_8 : decode cX9_adjustedBy 8 = .ok (.iload_n 2, 1) := dk_28 (dk_at dksX9_adjustedBy_0 8 rfl rfl)
theorem dX9_adjustedBy_9 : decode cX9_adjustedBy 9 = .ok (.iload_n 3, 1) := dk_29 (dk_at dksX9_adjustedBy_0 9 rfl rfl)
theorem dX9_adjustedBy_10 : decode cX9_adjustedBy 10 = .ok (.isub, 1) := dk_100 (dk_at dksX9_adjustedBy_0 10 rfl rfl)
theorem dX9_adjustedBy_11 : decode cX9_adjustedBy 11 = .ok (.i2l, 1) := dk_133 (dk_at dksX9_adjustedBy_0 11 rfl rfl)
theorem dX9_adjustedBy_12 : decode cX9_adjustedBy 12 = .ok (.lmul, 1) := dk_105 (dk_at dksX9_adjustedBy_0 12 rfl rfl)
theorem dX9_adjustedBy_13 : decode cX9_adjustedBy 13 = .ok (.aload_n 0, 1) := dk_42 (dk_at dksX9_adjustedBy_0 13 rfl rfl)
theorem dX9_adjustedBy_14 : decode cX9_adjustedBy 14 = .ok (.iload_n 1, 1) := dk_27 (dk_at dksX9_adjustedBy_0 14 rfl rfl)
theorem dX9_adjustedBy_15 : decode cX9_adjustedBy 15 = .ok (.iconst 4, 1) := dk_7 (dk_at dksX9_adjustedBy_0 15 rfl rfl)
theorem dX9_adjustedBy_16 : decode cX9_adjustedBy 16 = .ok (.invokevirtual 256, 3) := dk_182 1 0 (dk_at dksX9_adjustedBy_0 16 rfl rfl)
theorem dX9_adjustedBy_19 : decode cX9_adjustedBy 19 = .ok (.i2l, 1) := dk_133 (dk_at dksX9_adjustedBy_0 19 rfl rfl)
theorem dX9_adjustedBy_20 : decode cX9_adjustedBy 20 = .ok (.aload_n 0, 1) := dk_42 (dk_at dksX9_adjustedBy_0 20 rfl rfl)
theorem dX9_adjustedBy_21 : decode cX9_adjustedBy 21 = .ok (.getfield 32, 3) := dk_180 0 32 (dk_at dksX9_adjustedBy_0 21 rfl rfl)
theorem dX9_adjustedBy_24 : decode cX9_adjustedBy 24 = .ok (.iconst 1, 1) := dk_4 (dk_at dksX9_adjustedBy_1 0 rfl rfl)
theorem dX9_adjustedBy_25 : decode cX9_adjustedBy 25 = .ok (.iaload, 1) := dk_46 (dk_at dksX9_adjustedBy_1 1 rfl rfl)
theorem dX9_adjustedBy_26 : decode cX9_adjustedBy 26 = .ok (.i2l, 1) := dk_133 (dk_at dksX9_adjustedBy_1 2 rfl rfl)
theorem dX9_adjustedBy_27 : decode cX9_adjustedBy 27 = .ok (.lmul, 1) := dk_105 (dk_at dksX9_adjustedBy_1 3 rfl rfl)
theorem dX9_adjustedBy_28 : decode cX9_adjustedBy 28 = .ok (.invokevirtual 267, 3) := dk_182 1 11 (dk_at dksX9_adjustedBy_1 4 rfl rfl)
theorem dX9_adjustedBy_31 : decode cX9_adjustedBy 31 = .ok (.lreturn, 1) := dk_173 (dk_at dksX9_adjustedBy_1 7 rfl rfl)
abbrev cX9_booksFor : ByteArray := prog_17_method_69_code
def yX9_booksFor : MethodName := ⟨RX9, "booksFor", "(III)V"⟩
def dkwX9_booksFor_1 : List UInt8 := [29, 27, 182, 0, 252, 177]
abbrev dktX9_booksFor_1 : List UInt8 := dkwX9_booksFor_1 ++ []
def dkwX9_booksFor_0 : List UInt8 := [42, 27, 16, 10, 42, 27, 16, 10, 182, 1, 0, 29, 96, 182, 0, 191, 42, 42, 27, 3, 182, 1, 0, 28]
abbrev dktX9_booksFor_0 : List UInt8 := dkwX9_booksFor_0 ++ dktX9_booksFor_1
theorem dksX9_booksFor_0 : cX9_booksFor.data.toList.drop 0 = dktX9_booksFor_0 := by decide +kernel
theorem dksX9_booksFor_1 : cX9_booksFor.data.toList.drop 24 = dktX9_booksFor_1 := dk_seg dksX9_booksFor_0 24 rfl rfl
theorem dX9_booksFor_0 : decode cX9_booksFor 0 = .ok (.aload_n 0, 1) := dk_42 (dk_at dksX9_booksFor_0 0 rfl rfl)
theorem dX9_booksFor_1 : decode cX9_booksFor 1 = .ok (.iload_n 1, 1) := dk_27 (dk_at dksX9_booksFor_0 1 rfl rfl)
theorem dX9_booksFor_2 : decode cX9_booksFor 2 = .ok (.bipush 10, 2) := dk_16 10 (dk_at dksX9_booksFor_0 2 rfl rfl)
theorem dX9_booksFor_4 : decode cX9_booksFor 4 = .ok (.aload_n 0, 1) := dk_42 (dk_at dksX9_booksFor_0 4 rfl rfl)
theorem dX9_booksFor_5 : decode cX9_booksFor 5 = .ok (.iload_n 1, 1) := dk_27 (dk_at dksX9_booksFor_0 5 rfl rfl)
theorem dX9_booksFor_6 : decode cX9_booksFor 6 = .ok (.bipush 10, 2) := dk_16 10 (dk_at dksX9_booksFor_0 6 rfl rfl)
theorem dX9_booksFor_8 : decode cX9_booksFor 8 = .ok (.invokevirtual 256, 3) := dk_182 1 0 (dk_at dksX9_booksFor_0 8 rfl rfl)
theorem dX9_booksFor_11 : decode cX9_booksFor 11 = .ok (.iload_n 3, 1) := dk_29 (dk_at dksX9_booksFor_0 11 rfl rfl)
theorem dX9_booksFor_12 : decode cX9_booksFor 12 = .ok (.iadd, 1) := dk_96 (dk_at dksX9_booksFor_0 12 rfl rfl)
theorem dX9_booksFor_13 : decode cX9_booksFor 13 = .ok (.invokevirtual 191, 3) := dk_182 0 191 (dk_at dksX9_booksFor_0 13 rfl rfl)
theorem dX9_booksFor_16 : decode cX9_booksFor 16 = .ok (.aload_n 0, 1) := dk_42 (dk_at dksX9_booksFor_0 16 rfl rfl)
theorem dX9_booksFor_17 : decode cX9_booksFor 17 = .ok (.aload_n 0, 1) := dk_42 (dk_at dksX9_booksFor_0 17 rfl rfl)
theorem dX9_booksFor_18 : decode cX9_booksFor 18 = .ok (.iload_n 1, 1) := dk_27 (dk_at dksX9_booksFor_0 18 rfl rfl)
theorem dX9_booksFor_19 : decode cX9_booksFor 19 = .ok (.iconst 0, 1) := dk_3 (dk_at dksX9_booksFor_0 19 rfl rfl)
theorem dX9_booksFor_20 : decode cX9_booksFor 20 = .ok (.invokevirtual 256, 3) := dk_182 1 0 (dk_at dksX9_booksFor_0 20 rfl rfl)
theorem dX9_booksFor_23 : decode cX9_booksFor 23 = .ok (.iload_n 2, 1) := dk_28 (dk_at dksX9_booksFor_0 23 rfl rfl)
theorem dX9_booksFor_24 : decode cX9_booksFor 24 = .ok (.iload_n 3, 1) := dk_29 (dk_at dksX9_booksFor_1 0 rfl rfl)
theorem dX9_booksFor_25 : decode cX9_booksFor 25 = .ok (.iload_n 1, 1) := dk_27 (dk_at dksX9_booksFor_1 1 rfl rfl)
theorem dX9_booksFor_26 : decode cX9_booksFor 26 = .ok (.invokevirtual 252, 3) := dk_182 0 252 (dk_at dksX9_booksFor_1 2 rfl rfl)
theorem dX9_booksFor_29 : decode cX9_booksFor 29 = .ok (.return_, 1) := dk_177 (dk_at dksX9_booksFor_1 5 rfl rfl)
abbrev cX9_lastBy : ByteArray := prog_17_method_66_code
def yX9_lastBy : MethodName := ⟨RX9, "lastBy", "(IIII)J"⟩
def dkwX9_lastBy_2 : List UInt8 := [173]
abbrev dktX9_lastBy_2 : List UInt8 := dkwX9_lastBy_2 ++ []
def dkwX9_lastBy_1 : List UInt8 := [3, 21, 4, 100, 133, 105, 42, 27, 7, 182, 1, 0, 133, 42, 180, 0, 32, 4, 46, 133, 105, 182, 1, 11]
abbrev dktX9_lastBy_1 : List UInt8 := dkwX9_lastBy_1 ++ dktX9_lastBy_2
def dkwX9_lastBy_0 : List UInt8 := [42, 42, 27, 6, 182, 1, 0, 133, 28, 133, 105, 29, 154, 0, 12, 42, 180, 0, 32, 4, 46, 167, 0, 4]
abbrev dktX9_lastBy_0 : List UInt8 := dkwX9_lastBy_0 ++ dktX9_lastBy_1
theorem dksX9_lastBy_0 : cX9_lastBy.data.toList.drop 0 = dktX9_lastBy_0 := by decide +kernel
theorem dksX9_lastBy_1 : cX9_lastBy.data.toList.drop 24 = dktX9_lastBy_1 := dk_seg dksX9_lastBy_0 24 rfl rfl
theorem dksX9_lastBy_2 : cX9_lastBy.data.toList.drop 48 = dktX9_lastBy_2 := dk_seg dksX9_lastBy_1 24 rfl rfl
theorem dX9_lastBy_0 : decode cX9_lastBy 0 = .ok (.aload_n 0, 1) := dk_42 (dk_at dksX9_lastBy_0 0 rfl rfl)
theorem dX9_lastBy_1 : decode cX9_lastBy 1 = .ok (.aload_n 0, 1) := dk_42 (dk_at dksX9_lastBy_0 1 rfl rfl)
theorem dX9_lastBy_2 : decode cX9_lastBy 2 = .ok (.iload_n 1, 1) := dk_27 (dk_at dksX9_lastBy_0 2 rfl rfl)
theorem dX9_lastBy_3 : decode cX9_lastBy 3 = .ok (.iconst 3, 1) := dk_6 (dk_at dksX9_lastBy_0 3 rfl rfl)
theorem dX9_lastBy_4 : decode cX9_lastBy 4 = .ok (.invokevirtual 256, 3) := dk_182 1 0 (dk_at dksX9_lastBy_0 4 rfl rfl)
theorem dX9_lastBy_7 : decode cX9_lastBy 7 = .ok (.i2l, 1) := dk_133 (dk_at dksX9_lastBy_0 7 rfl rfl)
theorem dX9_lastBy_8 : decode cX9_lastBy 8 = .ok (.iload_n 2, 1) := dk_28 (dk_at dksX9_lastBy_0 8 rfl rfl)
theorem dX9_lastBy_9 : decode cX9_lastBy 9 = .ok (.i2l, 1) := dk_133 (dk_at dksX9_lastBy_0 9 rfl rfl)
theorem dX9_lastBy_10 : decode cX9_lastBy 10 = .ok (.lmul, 1) := dk_105 (dk_at dksX9_lastBy_0 10 rfl rfl)
theorem dX9_lastBy_11 : decode cX9_lastBy 11 = .ok (.iload_n 3, 1) := dk_29 (dk_at dksX9_lastBy_0 11 rfl rfl)
theorem dX9_lastBy_12 : decode cX9_lastBy 12 = .ok (.ifCond .ne 12, 3) := dk_154 0 12 (dk_at dksX9_lastBy_0 12 rfl rfl)
theorem dX9_lastBy_15 : decode cX9_lastBy 15 = .ok (.aload_n 0, 1) := dk_42 (dk_at dksX9_lastBy_0 15 rfl rfl)
theorem dX9_lastBy_16 : decode cX9_lastBy 16 = .ok (.getfield 32, 3) := dk_180 0 32 (dk_at dksX9_lastBy_0 16 rfl rfl)
theorem dX9_lastBy_19 : decode cX9_lastBy 19 = .ok (.iconst 1, 1) := dk_4 (dk_at dksX9_lastBy_0 19 rfl rfl)
theorem dX9_lastBy_20 : decode cX9_lastBy 20 = .ok (.iaload, 1) := dk_46 (dk_at dksX9_lastBy_0 20 rfl rfl)
theorem dX9_lastBy_21 : decode cX9_lastBy 21 = .ok (.goto 4, 3) := dk_167 0 4 (dk_at dksX9_lastBy_0 21 rfl rfl)
theorem dX9_lastBy_24 : decode cX9_lastBy 24 = .ok (.iconst 0, 1) := dk_3 (dk_at dksX9_lastBy_1 0 rfl rfl)
theorem dX9_lastBy_25 : decode cX9_lastBy 25 = .ok (.iload 4, 2) := dk_21 4 (dk_at dksX9_lastBy_1 1 rfl rfl)
theorem dX9_lastBy_27 : decode cX9_lastBy 27 = .ok (.isub, 1) := dk_100 (dk_at dksX9_lastBy_1 3 rfl rfl)
theorem dX9_lastBy_28 : decode cX9_lastBy 28 = .ok (.i2l, 1) := dk_133 (dk_at dksX9_lastBy_1 4 rfl rfl)
theorem dX9_lastBy_29 : decode cX9_lastBy 29 = .ok (.lmul, 1) := dk_105 (dk_at dksX9_lastBy_1 5 rfl rfl)
theorem dX9_lastBy_30 : decode cX9_lastBy 30 = .ok (.aload_n 0, 1) := dk_42 (dk_at dksX9_lastBy_1 6 rfl rfl)
theorem dX9_lastBy_31 : decode cX9_lastBy 31 = .ok (.iload_n 1, 1) := dk_27 (dk_at dksX9_lastBy_1 7 rfl rfl)
theorem dX9_lastBy_32 : decode cX9_lastBy 32 = .ok (.iconst 4, 1) := dk_7 (dk_at dksX9_lastBy_1 8 rfl rfl)
theorem dX9_lastBy_33 : decode cX9_lastBy 33 = .ok (.invokevirtual 256, 3) := dk_182 1 0 (dk_at dksX9_lastBy_1 9 rfl rfl)
theorem dX9_lastBy_36 : decode cX9_lastBy 36 = .ok (.i2l, 1) := dk_133 (dk_at dksX9_lastBy_1 12 rfl rfl)
theorem dX9_lastBy_37 : decode cX9_lastBy 37 = .ok (.aload_n 0, 1) := dk_42 (dk_at dksX9_lastBy_1 13 rfl rfl)
theorem dX9_lastBy_38 : decode cX9_lastBy 38 = .ok (.getfield 32, 3) := dk_180 0 32 (dk_at dksX9_lastBy_1 14 rfl rfl)
theorem dX9_lastBy_41 : decode cX9_lastBy 41 = .ok (.iconst 1, 1) := dk_4 (dk_at dksX9_lastBy_1 17 rfl rfl)
theorem dX9_lastBy_42 : decode cX9_lastBy 42 = .ok (.iaload, 1) := dk_46 (dk_at dksX9_lastBy_1 18 rfl rfl)
theorem dX9_lastBy_43 : decode cX9_lastBy 43 = .ok (.i2l, 1) := dk_133 (dk_at dksX9_lastBy_1 19 rfl rfl)
theorem dX9_lastBy_44 : decode cX9_lastBy 44 = .ok (.lmul, 1) := dk_105 (dk_at dksX9_lastBy_1 20 rfl rfl)
theorem dX9_lastBy_45 : decode cX9_lastBy 45 = .ok (.invokevirtual 267, 3) := dk_182 1 11 (dk_at dksX9_lastBy_1 21 rfl rfl)
theorem dX9_lastBy_48 : decode cX9_lastBy 48 = .ok (.lreturn, 1) := dk_173 (dk_at dksX9_lastBy_2 0 rfl rfl)
abbrev cX9_trader : ByteArray := prog_17_method_85_code
def yX9_trader : MethodName := ⟨RX9, "trader", "(II)I"⟩
def dkwX9_trader_7 : List UInt8 := [132, 4, 1, 167, 255, 208, 29, 172, 42, 5, 182, 1, 58, 172]
abbrev dktX9_trader_7 : List UInt8 := dkwX9_trader_7 ++ []
def dkwX9_trader_6 : List UInt8 := [160, 0, 21, 42, 21, 4, 16, 9, 182, 1, 0, 154, 0, 10, 4, 21, 4, 120, 167, 0, 4, 3, 128, 62]
abbrev dktX9_trader_6 : List UInt8 := dkwX9_trader_6 ++ dktX9_trader_7
def dkwX9_trader_5 : List UInt8 := [54, 4, 21, 4, 42, 17, 7, 73, 182, 0, 174, 162, 0, 42, 29, 42, 21, 4, 3, 182, 1, 0, 27]
abbrev dktX9_trader_5 : List UInt8 := dkwX9_trader_5 ++ dktX9_trader_6
def dkwX9_trader_4 : List UInt8 := [182, 0, 115, 4, 160, 0, 13, 42, 27, 16, 7, 182, 0, 115, 167, 0, 5, 16, 254, 172, 3, 62, 3]
abbrev dktX9_trader_4 : List UInt8 := dkwX9_trader_4 ++ dktX9_trader_5
def dkwX9_trader_3 : List UInt8 := [182, 0, 174, 172, 42, 17, 5, 1, 5, 27, 104, 96, 4, 96, 182, 0, 174, 172, 42, 27, 16, 6]
abbrev dktX9_trader_3 : List UInt8 := dkwX9_trader_3 ++ dktX9_trader_4
def dkwX9_trader_2 : List UInt8 := [42, 27, 4, 182, 0, 115, 172, 42, 27, 5, 182, 0, 115, 172, 42, 17, 5, 1, 5, 27, 104, 96]
abbrev dktX9_trader_2 : List UInt8 := dkwX9_trader_2 ++ dktX9_trader_3
def dkwX9_trader_1 : List UInt8 := [170, 0, 0, 0, 0, 0, 0, 162, 0, 0, 0, 0, 0, 0, 0, 5, 0, 0, 0, 40, 0, 0, 0, 47, 0, 0, 0, 54, 0, 0, 0, 66, 0, 0, 0, 80, 0, 0, 0, 104]
abbrev dktX9_trader_1 : List UInt8 := dkwX9_trader_1 ++ dktX9_trader_2
def dkwX9_trader_0 : List UInt8 := [42, 3, 181, 0, 49, 42, 27, 182, 1, 40, 154, 0, 9, 42, 4, 182, 1, 58, 172, 28]
abbrev dktX9_trader_0 : List UInt8 := dkwX9_trader_0 ++ dktX9_trader_1
theorem dksX9_trader_0 : cX9_trader.data.toList.drop 0 = dktX9_trader_0 := by decide +kernel
theorem dksX9_trader_1 : cX9_trader.data.toList.drop 20 = dktX9_trader_1 := dk_seg dksX9_trader_0 20 rfl rfl
theorem dksX9_trader_2 : cX9_trader.data.toList.drop 60 = dktX9_trader_2 := dk_seg dksX9_trader_1 40 rfl rfl
theorem dksX9_trader_3 : cX9_trader.data.toList.drop 82 = dktX9_trader_3 := dk_seg dksX9_trader_2 22 rfl rfl
theorem dksX9_trader_4 : cX9_trader.data.toList.drop 104 = dktX9_trader_4 := dk_seg dksX9_trader_3 22 rfl rfl
theorem dksX9_trader_5 : cX9_trader.data.toList.drop 127 = dktX9_trader_5 := dk_seg dksX9_trader_4 23 rfl rfl
theorem dksX9_trader_6 : cX9_trader.data.toList.drop 150 = dktX9_trader_6 := dk_seg dksX9_trader_5 23 rfl rfl
theorem dksX9_trader_7 : cX9_trader.data.toList.drop 174 = dktX9_trader_7 := dk_seg dksX9_trader_6 24 rfl rfl
theorem dX9_trader_0 : decode cX9_trader 0 = .ok (.aload_n 0, 1) := dk_42 (dk_at dksX9_trader_0 0 rfl rfl)
theorem dX9_trader_1 : decode cX9_trader 1 = .ok (.iconst 0, 1) := dk_3 (dk_at dksX9_trader_0 1 rfl rfl)
theorem dX9_trader_2 : decode cX9_trader 2 = .ok (.putfield 49, 3) := dk_181 0 49 (dk_at dksX9_trader_0 2 rfl rfl)
theorem dX9_trader_5 : decode cX9_trader 5 = .ok (.aload_n 0, 1) := dk_42 (dk_at dksX9_trader_0 5 rfl rfl)
theorem dX9_trader_6 : decode cX9_trader 6 = .ok (.iload_n 1, 1) := dk_27 (dk_at dksX9_trader_0 6 rfl rfl)
theorem dX9_trader_7 : decode cX9_trader 7 = .ok (.invokevirtual 296, 3) := dk_182 1 40 (dk_at dksX9_trader_0 7 rfl rfl)
theorem dX9_trader_10 : decode cX9_trader 10 = .ok (.ifCond .ne 9, 3) := dk_154 0 9 (dk_at dksX9_trader_0 10 rfl rfl)
theorem dX9_trader_13 : decode cX9_trader 13 = .ok (.aload_n 0, 1) := dk_42 (dk_at dksX9_trader_0 13 rfl rfl)
theorem dX9_trader_14 : decode cX9_trader 14 = .ok (.iconst 1, 1) := dk_4 (dk_at dksX9_trader_0 14 rfl rfl)
theorem dX9_trader_15 : decode cX9_trader 15 = .ok (.invokevirtual 314, 3) := dk_182 1 58 (dk_at dksX9_trader_0 15 rfl rfl)
theorem dX9_trader_18 : decode cX9_trader 18 = .ok (.ireturn, 1) := dk_172 (dk_at dksX9_trader_0 18 rfl rfl)
theorem dX9_trader_19 : decode cX9_trader 19 = .ok (.iload_n 2, 1) := dk_28 (dk_at dksX9_trader_0 19 rfl rfl)
theorem dX9_trader_20 : decode cX9_trader 20 = .ok (.tableswitch 162 0 5 #[40, 47, 54, 66, 80, 104], 40) := by decide +kernel
theorem dX9_trader_60 : decode cX9_trader 60 = .ok (.aload_n 0, 1) := dk_42 (dk_at dksX9_trader_2 0 rfl rfl)
theorem dX9_trader_61 : decode cX9_trader 61 = .ok (.iload_n 1, 1) := dk_27 (dk_at dksX9_trader_2 1 rfl rfl)
theorem dX9_trader_62 : decode cX9_trader 62 = .ok (.iconst 1, 1) := dk_4 (dk_at dksX9_trader_2 2 rfl rfl)
theorem dX9_trader_63 : decode cX9_trader 63 = .ok (.invokevirtual 115, 3) := dk_182 0 115 (dk_at dksX9_trader_2 3 rfl rfl)
theorem dX9_trader_66 : decode cX9_trader 66 = .ok (.ireturn, 1) := dk_172 (dk_at dksX9_trader_2 6 rfl rfl)
theorem dX9_trader_67 : decode cX9_trader 67 = .ok (.aload_n 0, 1) := dk_42 (dk_at dksX9_trader_2 7 rfl rfl)
theorem dX9_trader_68 : decode cX9_trader 68 = .ok (.iload_n 1, 1) := dk_27 (dk_at dksX9_trader_2 8 rfl rfl)
theorem dX9_trader_69 : decode cX9_trader 69 = .ok (.iconst 2, 1) := dk_5 (dk_at dksX9_trader_2 9 rfl rfl)
theorem dX9_trader_70 : decode cX9_trader 70 = .ok (.invokevirtual 115, 3) := dk_182 0 115 (dk_at dksX9_trader_2 10 rfl rfl)
theorem dX9_trader_73 : decode cX9_trader 73 = .ok (.ireturn, 1) := dk_172 (dk_at dksX9_trader_2 13 rfl rfl)
theorem dX9_trader_74 : decode cX9_trader 74 = .ok (.aload_n 0, 1) := dk_42 (dk_at dksX9_trader_2 14 rfl rfl)
theorem dX9_trader_75 : decode cX9_trader 75 = .ok (.sipush 1281, 3) := dk_17 5 1 (dk_at dksX9_trader_2 15 rfl rfl)
theorem dX9_trader_78 : decode cX9_trader 78 = .ok (.iconst 2, 1) := dk_5 (dk_at dksX9_trader_2 18 rfl rfl)
theorem dX9_trader_79 : decode cX9_trader 79 = .ok (.iload_n 1, 1) := dk_27 (dk_at dksX9_trader_2 19 rfl rfl)
theorem dX9_trader_80 : decode cX9_trader 80 = .ok (.imul, 1) := dk_104 (dk_at dksX9_trader_2 20 rfl rfl)
theorem dX9_trader_81 : decode cX9_trader 81 = .ok (.iadd, 1) := dk_96 (dk_at dksX9_trader_2 21 rfl rfl)
theorem dX9_trader_82 : decode cX9_trader 82 = .ok (.invokevirtual 174, 3) := dk_182 0 174 (dk_at dksX9_trader_3 0 rfl rfl)
theorem dX9_trader_85 : decode cX9_trader 85 = .ok (.ireturn, 1) := dk_172 (dk_at dksX9_trader_3 3 rfl rfl)
theorem dX9_trader_86 : decode cX9_trader 86 = .ok (.aload_n 0, 1) := dk_42 (dk_at dksX9_trader_3 4 rfl rfl)
theorem dX9_trader_87 : decode cX9_trader 87 = .ok (.sipush 1281, 3) := dk_17 5 1 (dk_at dksX9_trader_3 5 rfl rfl)
theorem dX9_trader_90 : decode cX9_trader 90 = .ok (.iconst 2, 1) := dk_5 (dk_at dksX9_trader_3 8 rfl rfl)
theorem dX9_trader_91 : decode cX9_trader 91 = .ok (.iload_n 1, 1) := dk_27 (dk_at dksX9_trader_3 9 rfl rfl)
theorem dX9_trader_92 : decode cX9_trader 92 = .ok (.imul, 1) := dk_104 (dk_at dksX9_trader_3 10 rfl rfl)
theorem dX9_trader_93 : decode cX9_trader 93 = .ok (.iadd, 1) := dk_96 (dk_at dksX9_trader_3 11 rfl rfl)
theorem dX9_trader_94 : decode cX9_trader 94 = .ok (.iconst 1, 1) := dk_4 (dk_at dksX9_trader_3 12 rfl rfl)
theorem dX9_trader_95 : decode cX9_trader 95 = .ok (.iadd, 1) := dk_96 (dk_at dksX9_trader_3 13 rfl rfl)
theorem dX9_trader_96 : decode cX9_trader 96 = .ok (.invokevirtual 174, 3) := dk_182 0 174 (dk_at dksX9_trader_3 14 rfl rfl)
theorem dX9_trader_99 : decode cX9_trader 99 = .ok (.ireturn, 1) := dk_172 (dk_at dksX9_trader_3 17 rfl rfl)
theorem dX9_trader_100 : decode cX9_trader 100 = .ok (.aload_n 0, 1) := dk_42 (dk_at dksX9_trader_3 18 rfl rfl)
theorem dX9_trader_101 : decode cX9_trader 101 = .ok (.iload_n 1, 1) := dk_27 (dk_at dksX9_trader_3 19 rfl rfl)
theorem dX9_trader_102 : decode cX9_trader 102 = .ok (.bipush 6, 2) := dk_16 6 (dk_at dksX9_trader_3 20 rfl rfl)
theorem dX9_trader_104 : decode cX9_trader 104 = .ok (.invokevirtual 115, 3) := dk_182 0 115 (dk_at dksX9_trader_4 0 rfl rfl)
theorem dX9_trader_107 : decode cX9_trader 107 = .ok (.iconst 1, 1) := dk_4 (dk_at dksX9_trader_4 3 rfl rfl)
theorem dX9_trader_108 : decode cX9_trader 108 = .ok (.if_icmp .ne 13, 3) := dk_160 0 13 (dk_at dksX9_trader_4 4 rfl rfl)
theorem dX9_trader_111 : decode cX9_trader 111 = .ok (.aload_n 0, 1) := dk_42 (dk_at dksX9_trader_4 7 rfl rfl)
theorem dX9_trader_112 : decode cX9_trader 112 = .ok (.iload_n 1, 1) := dk_27 (dk_at dksX9_trader_4 8 rfl rfl)
theorem dX9_trader_113 : decode cX9_trader 113 = .ok (.bipush 7, 2) := dk_16 7 (dk_at dksX9_trader_4 9 rfl rfl)
theorem dX9_trader_115 : decode cX9_trader 115 = .ok (.invokevirtual 115, 3) := dk_182 0 115 (dk_at dksX9_trader_4 11 rfl rfl)
theorem dX9_trader_118 : decode cX9_trader 118 = .ok (.goto 5, 3) := dk_167 0 5 (dk_at dksX9_trader_4 14 rfl rfl)
theorem dX9_trader_121 : decode cX9_trader 121 = .ok (.bipush (-2), 2) := dk_16 254 (dk_at dksX9_trader_4 17 rfl rfl)
theorem dX9_trader_123 : decode cX9_trader 123 = .ok (.ireturn, 1) := dk_172 (dk_at dksX9_trader_4 19 rfl rfl)
theorem dX9_trader_124 : decode cX9_trader 124 = .ok (.iconst 0, 1) := dk_3 (dk_at dksX9_trader_4 20 rfl rfl)
theorem dX9_trader_125 : decode cX9_trader 125 = .ok (.istore_n 3, 1) := dk_62 (dk_at dksX9_trader_4 21 rfl rfl)
theorem dX9_trader_126 : decode cX9_trader 126 = .ok (.iconst 0, 1) := dk_3 (dk_at dksX9_trader_4 22 rfl rfl)
theorem dX9_trader_127 : decode cX9_trader 127 = .ok (.istore 4, 2) := dk_54 4 (dk_at dksX9_trader_5 0 rfl rfl)
theorem dX9_trader_129 : decode cX9_trader 129 = .ok (.iload 4, 2) := dk_21 4 (dk_at dksX9_trader_5 2 rfl rfl)
theorem dX9_trader_131 : decode cX9_trader 131 = .ok (.aload_n 0, 1) := dk_42 (dk_at dksX9_trader_5 4 rfl rfl)
theorem dX9_trader_132 : decode cX9_trader 132 = .ok (.sipush 1865, 3) := dk_17 7 73 (dk_at dksX9_trader_5 5 rfl rfl)
theorem dX9_trader_135 : decode cX9_trader 135 = .ok (.invokevirtual 174, 3) := dk_182 0 174 (dk_at dksX9_trader_5 8 rfl rfl)
theorem dX9_trader_138 : decode cX9_trader 138 = .ok (.if_icmp .ge 42, 3) := dk_162 0 42 (dk_at dksX9_trader_5 11 rfl rfl)
theorem dX9_trader_141 : decode cX9_trader 141 = .ok (.iload_n 3, 1) := dk_29 (dk_at dksX9_trader_5 14 rfl rfl)
theorem dX9_trader_142 : decode cX9_trader 142 = .ok (.aload_n 0, 1) := dk_42 (dk_at dksX9_trader_5 15 rfl rfl)
theorem dX9_trader_143 : decode cX9_trader 143 = .ok (.iload 4, 2) := dk_21 4 (dk_at dksX9_trader_5 16 rfl rfl)
theorem dX9_trader_145 : decode cX9_trader 145 = .ok (.iconst 0, 1) := dk_3 (dk_at dksX9_trader_5 18 rfl rfl)
theorem dX9_trader_146 : decode cX9_trader 146 = .ok (.invokevirtual 256, 3) := dk_182 1 0 (dk_at dksX9_trader_5 19 rfl rfl)
theorem dX9_trader_149 : decode cX9_trader 149 = .ok (.iload_n 1, 1) := dk_27 (dk_at dksX9_trader_5 22 rfl rfl)
theorem dX9_trader_150 : decode cX9_trader 150 = .ok (.if_icmp .ne 21, 3) := dk_160 0 21 (dk_at dksX9_trader_6 0 rfl rfl)
theorem dX9_trader_153 : decode cX9_trader 153 = .ok (.aload_n 0, 1) := dk_42 (dk_at dksX9_trader_6 3 rfl rfl)
theorem dX9_trader_154 : decode cX9_trader 154 = .ok (.iload 4, 2) := dk_21 4 (dk_at dksX9_trader_6 4 rfl rfl)
theorem dX9_trader_156 : decode cX9_trader 156 = .ok (.bipush 9, 2) := dk_16 9 (dk_at dksX9_trader_6 6 rfl rfl)
theorem dX9_trader_158 : decode cX9_trader 158 = .ok (.invokevirtual 256, 3) := dk_182 1 0 (dk_at dksX9_trader_6 8 rfl rfl)
theorem dX9_trader_161 : decode cX9_trader 161 = .ok (.ifCond .ne 10, 3) := dk_154 0 10 (dk_at dksX9_trader_6 11 rfl rfl)
theorem dX9_trader_164 : decode cX9_trader 164 = .ok (.iconst 1, 1) := dk_4 (dk_at dksX9_trader_6 14 rfl rfl)
theorem dX9_trader_165 : decode cX9_trader 165 = .ok (.iload 4, 2) := dk_21 4 (dk_at dksX9_trader_6 15 rfl rfl)
theorem dX9_trader_167 : decode cX9_trader 167 = .ok (.ishl, 1) := dk_120 (dk_at dksX9_trader_6 17 rfl rfl)
theorem dX9_trader_168 : decode cX9_trader 168 = .ok (.goto 4, 3) := dk_167 0 4 (dk_at dksX9_trader_6 18 rfl rfl)
theorem dX9_trader_171 : decode cX9_trader 171 = .ok (.iconst 0, 1) := dk_3 (dk_at dksX9_trader_6 21 rfl rfl)
theorem dX9_trader_172 : decode cX9_trader 172 = .ok (.ior, 1) := dk_128 (dk_at dksX9_trader_6 22 rfl rfl)
theorem dX9_trader_173 : decode cX9_trader 173 = .ok (.istore_n 3, 1) := dk_62 (dk_at dksX9_trader_6 23 rfl rfl)
theorem dX9_trader_174 : decode cX9_trader 174 = .ok (.iinc 4 1, 3) := dk_132 4 1 (dk_at dksX9_trader_7 0 rfl rfl)
theorem dX9_trader_177 : decode cX9_trader 177 = .ok (.goto (-48), 3) := dk_167 255 208 (dk_at dksX9_trader_7 3 rfl rfl)
theorem dX9_trader_180 : decode cX9_trader 180 = .ok (.iload_n 3, 1) := dk_29 (dk_at dksX9_trader_7 6 rfl rfl)
theorem dX9_trader_181 : decode cX9_trader 181 = .ok (.ireturn, 1) := dk_172 (dk_at dksX9_trader_7 7 rfl rfl)
theorem dX9_trader_182 : decode cX9_trader 182 = .ok (.aload_n 0, 1) := dk_42 (dk_at dksX9_trader_7 8 rfl rfl)
theorem dX9_trader_183 : decode cX9_trader 183 = .ok (.iconst 2, 1) := dk_5 (dk_at dksX9_trader_7 9 rfl rfl)
theorem dX9_trader_184 : decode cX9_trader 184 = .ok (.invokevirtual 314, 3) := dk_182 1 58 (dk_at dksX9_trader_7 10 rfl rfl)
theorem dX9_trader_187 : decode cX9_trader 187 = .ok (.ireturn, 1) := dk_172 (dk_at dksX9_trader_7 13 rfl rfl)
abbrev cX9_fails : ByteArray := prog_17_method_84_code
def yX9_fails : MethodName := ⟨RX9, "fails", "(I)I"⟩
def dkwX9_fails_0 : List UInt8 := [42, 27, 181, 0, 49, 3, 172]
abbrev dktX9_fails_0 : List UInt8 := dkwX9_fails_0 ++ []
theorem dksX9_fails_0 : cX9_fails.data.toList.drop 0 = dktX9_fails_0 := by decide +kernel
theorem dX9_fails_0 : decode cX9_fails 0 = .ok (.aload_n 0, 1) := dk_42 (dk_at dksX9_fails_0 0 rfl rfl)
theorem dX9_fails_1 : decode cX9_fails 1 = .ok (.iload_n 1, 1) := dk_27 (dk_at dksX9_fails_0 1 rfl rfl)
theorem dX9_fails_2 : decode cX9_fails 2 = .ok (.putfield 49, 3) := dk_181 0 49 (dk_at dksX9_fails_0 2 rfl rfl)
theorem dX9_fails_5 : decode cX9_fails 5 = .ok (.iconst 0, 1) := dk_3 (dk_at dksX9_fails_0 5 rfl rfl)
theorem dX9_fails_6 : decode cX9_fails 6 = .ok (.ireturn, 1) := dk_172 (dk_at dksX9_fails_0 6 rfl rfl)
abbrev cX9_asset : ByteArray := prog_17_method_87_code
def yX9_asset : MethodName := ⟨RX9, "asset", "(II)I"⟩
def dkwX9_asset_7 : List UInt8 := [136, 167, 0, 5, 16, 254, 172, 2, 172]
abbrev dktX9_asset_7 : List UInt8 := dkwX9_asset_7 ++ []
def dkwX9_asset_6 : List UInt8 := [182, 1, 0, 172, 42, 27, 182, 1, 61, 153, 0, 19, 42, 27, 42, 27, 16, 6, 182, 1, 0, 182, 1, 20]
abbrev dktX9_asset_6 : List UInt8 := dkwX9_asset_6 ++ dktX9_asset_7
def dkwX9_asset_5 : List UInt8 := [182, 1, 0, 4, 100, 167, 0, 5, 16, 254, 172, 42, 27, 16, 9, 182, 1, 0, 172, 42, 27, 4]
abbrev dktX9_asset_5 : List UInt8 := dkwX9_asset_5 ++ dktX9_asset_6
def dkwX9_asset_4 : List UInt8 := [182, 1, 0, 167, 0, 5, 16, 254, 172, 42, 27, 16, 7, 182, 1, 0, 158, 0, 15, 42, 27, 16, 7]
abbrev dktX9_asset_4 : List UInt8 := dkwX9_asset_4 ++ dktX9_asset_5
def dkwX9_asset_3 : List UInt8 := [182, 1, 0, 172, 42, 27, 8, 182, 1, 0, 172, 42, 27, 182, 1, 61, 153, 0, 13, 42, 27, 16, 6]
abbrev dktX9_asset_3 : List UInt8 := dkwX9_asset_3 ++ dktX9_asset_4
def dkwX9_asset_2 : List UInt8 := [42, 27, 3, 182, 1, 0, 172, 42, 27, 5, 182, 1, 0, 172, 42, 27, 6, 182, 1, 0, 172, 42, 27, 7]
abbrev dktX9_asset_2 : List UInt8 := dkwX9_asset_2 ++ dktX9_asset_3
def dkwX9_asset_1 : List UInt8 := [170, 0, 0, 0, 0, 0, 0, 179, 0, 0, 0, 0, 0, 0, 0, 9, 0, 0, 0, 56, 0, 0, 0, 63, 0, 0, 0, 70, 0, 0, 0, 77, 0, 0, 0, 84, 0, 0, 0, 91, 0, 0, 0, 112, 0, 0, 0, 137, 0, 0, 0, 145, 0, 0, 0, 152]
abbrev dktX9_asset_1 : List UInt8 := dkwX9_asset_1 ++ dktX9_asset_2
def dkwX9_asset_0 : List UInt8 := [42, 3, 181, 0, 49, 42, 27, 182, 1, 46, 154, 0, 5, 2, 172, 28]
abbrev dktX9_asset_0 : List UInt8 := dkwX9_asset_0 ++ dktX9_asset_1
theorem dksX9_asset_0 : cX9_asset.data.toList.drop 0 = dktX9_asset_0 := by decide +kernel
theorem dksX9_asset_1 : cX9_asset.data.toList.drop 16 = dktX9_asset_1 := dk_seg dksX9_asset_0 16 rfl rfl
theorem dksX9_asset_2 : cX9_asset.data.toList.drop 72 = dktX9_asset_2 := dk_seg dksX9_asset_1 56 rfl rfl
theorem dksX9_asset_3 : cX9_asset.data.toList.drop 96 = dktX9_asset_3 := dk_seg dksX9_asset_2 24 rfl rfl
theorem dksX9_asset_4 : cX9_asset.data.toList.drop 119 = dktX9_asset_4 := dk_seg dksX9_asset_3 23 rfl rfl
theorem dksX9_asset_5 : cX9_asset.data.toList.drop 142 = dktX9_asset_5 := dk_seg dksX9_asset_4 23 rfl rfl
theorem dksX9_asset_6 : cX9_asset.data.toList.drop 164 = dktX9_asset_6 := dk_seg dksX9_asset_5 22 rfl rfl
theorem dksX9_asset_7 : cX9_asset.data.toList.drop 188 = dktX9_asset_7 := dk_seg dksX9_asset_6 24 rfl rfl
theorem dX9_asset_0 : decode cX9_asset 0 = .ok (.aload_n 0, 1) := dk_42 (dk_at dksX9_asset_0 0 rfl rfl)
theorem dX9_asset_1 : decode cX9_asset 1 = .ok (.iconst 0, 1) := dk_3 (dk_at dksX9_asset_0 1 rfl rfl)
theorem dX9_asset_2 : decode cX9_asset 2 = .ok (.putfield 49, 3) := dk_181 0 49 (dk_at dksX9_asset_0 2 rfl rfl)
theorem dX9_asset_5 : decode cX9_asset 5 = .ok (.aload_n 0, 1) := dk_42 (dk_at dksX9_asset_0 5 rfl rfl)
theorem dX9_asset_6 : decode cX9_asset 6 = .ok (.iload_n 1, 1) := dk_27 (dk_at dksX9_asset_0 6 rfl rfl)
theorem dX9_asset_7 : decode cX9_asset 7 = .ok (.invokevirtual 302, 3) := dk_182 1 46 (dk_at dksX9_asset_0 7 rfl rfl)
theorem dX9_asset_10 : decode cX9_asset 10 = .ok (.ifCond .ne 5, 3) := dk_154 0 5 (dk_at dksX9_asset_0 10 rfl rfl)
theorem dX9_asset_13 : decode cX9_asset 13 = .ok (.iconst (-1), 1) := dk_2 (dk_at dksX9_asset_0 13 rfl rfl)
theorem dX9_asset_14 : decode cX9_asset 14 = .ok (.ireturn, 1) := dk_172 (dk_at dksX9_asset_0 14 rfl rfl)
theorem dX9_asset_15 : decode cX9_asset 15 = .ok (.iload_n 2, 1) := dk_28 (dk_at dksX9_asset_0 15 rfl rfl)
theorem dX9_asset_16 : decode cX9_asset 16 = .ok (.tableswitch 179 0 9 #[56, 63, 70, 77, 84, 91, 112, 137, 145, 152], 56) := by decide +kernel
theorem dX9_asset_72 : decode cX9_asset 72 = .ok (.aload_n 0, 1) := dk_42 (dk_at dksX9_asset_2 0 rfl rfl)
theorem dX9_asset_73 : decode cX9_asset 73 = .ok (.iload_n 1, 1) := dk_27 (dk_at dksX9_asset_2 1 rfl rfl)
theorem dX9_asset_74 : decode cX9_asset 74 = .ok (.iconst 0, 1) := dk_3 (dk_at dksX9_asset_2 2 rfl rfl)
theorem dX9_asset_75 : decode cX9_asset 75 = .ok (.invokevirtual 256, 3) := dk_182 1 0 (dk_at dksX9_asset_2 3 rfl rfl)
theorem dX9_asset_78 : decode cX9_asset 78 = .ok (.ireturn, 1) := dk_172 (dk_at dksX9_asset_2 6 rfl rfl)
theorem dX9_asset_79 : decode cX9_asset 79 = .ok (.aload_n 0, 1) := dk_42 (dk_at dksX9_asset_2 7 rfl rfl)
theorem dX9_asset_80 : decode cX9_asset 80 = .ok (.iload_n 1, 1) := dk_27 (dk_at dksX9_asset_2 8 rfl rfl)
theorem dX9_asset_81 : decode cX9_asset 81 = .ok (.iconst 2, 1) := dk_5 (dk_at dksX9_asset_2 9 rfl rfl)
theorem dX9_asset_82 : decode cX9_asset 82 = .ok (.invokevirtual 256, 3) := dk_182 1 0 (dk_at dksX9_asset_2 10 rfl rfl)
theorem dX9_asset_85 : decode cX9_asset 85 = .ok (.ireturn, 1) := dk_172 (dk_at dksX9_asset_2 13 rfl rfl)
theorem dX9_asset_86 : decode cX9_asset 86 = .ok (.aload_n 0, 1) := dk_42 (dk_at dksX9_asset_2 14 rfl rfl)
theorem dX9_asset_87 : decode cX9_asset 87 = .ok (.iload_n 1, 1) := dk_27 (dk_at dksX9_asset_2 15 rfl rfl)
theorem dX9_asset_88 : decode cX9_asset 88 = .ok (.iconst 3, 1) := dk_6 (dk_at dksX9_asset_2 16 rfl rfl)
theorem dX9_asset_89 : decode cX9_asset 89 = .ok (.invokevirtual 256, 3) := dk_182 1 0 (dk_at dksX9_asset_2 17 rfl rfl)
theorem dX9_asset_92 : decode cX9_asset 92 = .ok (.ireturn, 1) := dk_172 (dk_at dksX9_asset_2 20 rfl rfl)
theorem dX9_asset_93 : decode cX9_asset 93 = .ok (.aload_n 0, 1) := dk_42 (dk_at dksX9_asset_2 21 rfl rfl)
theorem dX9_asset_94 : decode cX9_asset 94 = .ok (.iload_n 1, 1) := dk_27 (dk_at dksX9_asset_2 22 rfl rfl)
theorem dX9_asset_95 : decode cX9_asset 95 = .ok (.iconst 4, 1) := dk_7 (dk_at dksX9_asset_2 23 rfl rfl)
theorem dX9_asset_96 : decode cX9_asset 96 = .ok (.invokevirtual 256, 3) := dk_182 1 0 (dk_at dksX9_asset_3 0 rfl rfl)
theorem dX9_asset_99 : decode cX9_asset 99 = .ok (.ireturn, 1) := dk_172 (dk_at dksX9_asset_3 3 rfl rfl)
theorem dX9_asset_100 : decode cX9_asset 100 = .ok (.aload_n 0, 1) := dk_42 (dk_at dksX9_asset_3 4 rfl rfl)
theorem dX9_asset_101 : decode cX9_asset 101 = .ok (.iload_n 1, 1) := dk_27 (dk_at dksX9_asset_3 5 rfl rfl)
theorem dX9_asset_102 : decode cX9_asset 102 = .ok (.iconst 5, 1) := dk_8 (dk_at dksX9_asset_3 6 rfl rfl)
theorem dX9_asset_103 : decode cX9_asset 103 = .ok (.invokevirtual 256, 3) := dk_182 1 0 (dk_at dksX9_asset_3 7 rfl rfl)
theorem dX9_asset_106 : decode cX9_asset 106 = .ok (.ireturn, 1) := dk_172 (dk_at dksX9_asset_3 10 rfl rfl)
theorem dX9_asset_107 : decode cX9_asset 107 = .ok (.aload_n 0, 1) := dk_42 (dk_at dksX9_asset_3 11 rfl rfl)
theorem dX9_asset_108 : decode cX9_asset 108 = .ok (.iload_n 1, 1) := dk_27 (dk_at dksX9_asset_3 12 rfl rfl)
theorem dX9_asset_109 : decode cX9_asset 109 = .ok (.invokevirtual 317, 3) := dk_182 1 61 (dk_at dksX9_asset_3 13 rfl rfl)
theorem dX9_asset_112 : decode cX9_asset 112 = .ok (.ifCond .eq 13, 3) := dk_153 0 13 (dk_at dksX9_asset_3 16 rfl rfl)
theorem dX9_asset_115 : decode cX9_asset 115 = .ok (.aload_n 0, 1) := dk_42 (dk_at dksX9_asset_3 19 rfl rfl)
theorem dX9_asset_116 : decode cX9_asset 116 = .ok (.iload_n 1, 1) := dk_27 (dk_at dksX9_asset_3 20 rfl rfl)
theorem dX9_asset_117 : decode cX9_asset 117 = .ok (.bipush 6, 2) := dk_16 6 (dk_at dksX9_asset_3 21 rfl rfl)
theorem dX9_asset_119 : decode cX9_asset 119 = .ok (.invokevirtual 256, 3) := dk_182 1 0 (dk_at dksX9_asset_4 0 rfl rfl)
theorem dX9_asset_122 : decode cX9_asset 122 = .ok (.goto 5, 3) := dk_167 0 5 (dk_at dksX9_asset_4 3 rfl rfl)
theorem dX9_asset_125 : decode cX9_asset 125 = .ok (.bipush (-2), 2) := dk_16 254 (dk_at dksX9_asset_4 6 rfl rfl)
theorem dX9_asset_127 : decode cX9_asset 127 = .ok (.ireturn, 1) := dk_172 (dk_at dksX9_asset_4 8 rfl rfl)
theorem dX9_asset_128 : decode cX9_asset 128 = .ok (.aload_n 0, 1) := dk_42 (dk_at dksX9_asset_4 9 rfl rfl)
theorem dX9_asset_129 : decode cX9_asset 129 = .ok (.iload_n 1, 1) := dk_27 (dk_at dksX9_asset_4 10 rfl rfl)
theorem dX9_asset_130 : decode cX9_asset 130 = .ok (.bipush 7, 2) := dk_16 7 (dk_at dksX9_asset_4 11 rfl rfl)
theorem dX9_asset_132 : decode cX9_asset 132 = .ok (.invokevirtual 256, 3) := dk_182 1 0 (dk_at dksX9_asset_4 13 rfl rfl)
theorem dX9_asset_135 : decode cX9_asset 135 = .ok (.ifCond .le 15, 3) := dk_158 0 15 (dk_at dksX9_asset_4 16 rfl rfl)
theorem dX9_asset_138 : decode cX9_asset 138 = .ok (.aload_n 0, 1) := dk_42 (dk_at dksX9_asset_4 19 rfl rfl)
theorem dX9_asset_139 : decode cX9_asset 139 = .ok (.iload_n 1, 1) := dk_27 (dk_at dksX9_asset_4 20 rfl rfl)
theorem dX9_asset_140 : decode cX9_asset 140 = .ok (.bipush 7, 2) := dk_16 7 (dk_at dksX9_asset_4 21 rfl rfl)
theorem dX9_asset_142 : decode cX9_asset 142 = .ok (.invokevirtual 256, 3) := dk_182 1 0 (dk_at dksX9_asset_5 0 rfl rfl)
theorem dX9_asset_145 : decode cX9_asset 145 = .ok (.iconst 1, 1) := dk_4 (dk_at dksX9_asset_5 3 rfl rfl)
theorem dX9_asset_146 : decode cX9_asset 146 = .ok (.isub, 1) := dk_100 (dk_at dksX9_asset_5 4 rfl rfl)
theorem dX9_asset_147 : decode cX9_asset 147 = .ok (.goto 5, 3) := dk_167 0 5 (dk_at dksX9_asset_5 5 rfl rfl)
theorem dX9_asset_150 : decode cX9_asset 150 = .ok (.bipush (-2), 2) := dk_16 254 (dk_at dksX9_asset_5 8 rfl rfl)
theorem dX9_asset_152 : decode cX9_asset 152 = .ok (.ireturn, 1) := dk_172 (dk_at dksX9_asset_5 10 rfl rfl)
theorem dX9_asset_153 : decode cX9_asset 153 = .ok (.aload_n 0, 1) := dk_42 (dk_at dksX9_asset_5 11 rfl rfl)
theorem dX9_asset_154 : decode cX9_asset 154 = .ok (.iload_n 1, 1) := dk_27 (dk_at dksX9_asset_5 12 rfl rfl)
theorem dX9_asset_155 : decode cX9_asset 155 = .ok (.bipush 9, 2) := dk_16 9 (dk_at dksX9_asset_5 13 rfl rfl)
theorem dX9_asset_157 : decode cX9_asset 157 = .ok (.invokevirtual 256, 3) := dk_182 1 0 (dk_at dksX9_asset_5 15 rfl rfl)
theorem dX9_asset_160 : decode cX9_asset 160 = .ok (.ireturn, 1) := dk_172 (dk_at dksX9_asset_5 18 rfl rfl)
theorem dX9_asset_161 : decode cX9_asset 161 = .ok (.aload_n 0, 1) := dk_42 (dk_at dksX9_asset_5 19 rfl rfl)
theorem dX9_asset_162 : decode cX9_asset 162 = .ok (.iload_n 1, 1) := dk_27 (dk_at dksX9_asset_5 20 rfl rfl)
theorem dX9_asset_163 : decode cX9_asset 163 = .ok (.iconst 1, 1) := dk_4 (dk_at dksX9_asset_5 21 rfl rfl)
theorem dX9_asset_164 : decode cX9_asset 164 = .ok (.invokevirtual 256, 3) := dk_182 1 0 (dk_at dksX9_asset_6 0 rfl rfl)
theorem dX9_asset_167 : decode cX9_asset 167 = .ok (.ireturn, 1) := dk_172 (dk_at dksX9_asset_6 3 rfl rfl)
theorem dX9_asset_168 : decode cX9_asset 168 = .ok (.aload_n 0, 1) := dk_42 (dk_at dksX9_asset_6 4 rfl rfl)
theorem dX9_asset_169 : decode cX9_asset 169 = .ok (.iload_n 1, 1) := dk_27 (dk_at dksX9_asset_6 5 rfl rfl)
theorem dX9_asset_170 : decode cX9_asset 170 = .ok (.invokevirtual 317, 3) := dk_182 1 61 (dk_at dksX9_asset_6 6 rfl rfl)
theorem dX9_asset_173 : decode cX9_asset 173 = .ok (.ifCond .eq 19, 3) := dk_153 0 19 (dk_at dksX9_asset_6 9 rfl rfl)
theorem dX9_asset_176 : decode cX9_asset 176 = .ok (.aload_n 0, 1) := dk_42 (dk_at dksX9_asset_6 12 rfl rfl)
theorem dX9_asset_177 : decode cX9_asset 177 = .ok (.iload_n 1, 1) := dk_27 (dk_at dksX9_asset_6 13 rfl rfl)
theorem dX9_asset_178 : decode cX9_asset 178 = .ok (.aload_n 0, 1) := dk_42 (dk_at dksX9_asset_6 14 rfl rfl)
theorem dX9_asset_179 : decode cX9_asset 179 = .ok (.iload_n 1, 1) := dk_27 (dk_at dksX9_asset_6 15 rfl rfl)
theorem dX9_asset_180 : decode cX9_asset 180 = .ok (.bipush 6, 2) := dk_16 6 (dk_at dksX9_asset_6 16 rfl rfl)
theorem dX9_asset_182 : decode cX9_asset 182 = .ok (.invokevirtual 256, 3) := dk_182 1 0 (dk_at dksX9_asset_6 18 rfl rfl)
theorem dX9_asset_185 : decode cX9_asset 185 = .ok (.invokevirtual 276, 3) := dk_182 1 20 (dk_at dksX9_asset_6 21 rfl rfl)
theorem dX9_asset_188 : decode cX9_asset 188 = .ok (.l2i, 1) := dk_136 (dk_at dksX9_asset_7 0 rfl rfl)
theorem dX9_asset_189 : decode cX9_asset 189 = .ok (.goto 5, 3) := dk_167 0 5 (dk_at dksX9_asset_7 1 rfl rfl)
theorem dX9_asset_192 : decode cX9_asset 192 = .ok (.bipush (-2), 2) := dk_16 254 (dk_at dksX9_asset_7 4 rfl rfl)
theorem dX9_asset_194 : decode cX9_asset 194 = .ok (.ireturn, 1) := dk_172 (dk_at dksX9_asset_7 6 rfl rfl)
theorem dX9_asset_195 : decode cX9_asset 195 = .ok (.iconst (-1), 1) := dk_2 (dk_at dksX9_asset_7 7 rfl rfl)
theorem dX9_asset_196 : decode cX9_asset 196 = .ok (.ireturn, 1) := dk_172 (dk_at dksX9_asset_7 8 rfl rfl)
abbrev cX9_isThrough : ByteArray := prog_17_method_86_code
def yX9_isThrough : MethodName := ⟨RX9, "isThrough", "(I)Z"⟩
def dkwX9_isThrough_0 : List UInt8 := [42, 27, 16, 47, 182, 1, 0, 158, 0, 7, 4, 167, 0, 4, 3, 172]
abbrev dktX9_isThrough_0 : List UInt8 := dkwX9_isThrough_0 ++ []
theorem dksX9_isThrough_0 : cX9_isThrough.data.toList.drop 0 = dktX9_isThrough_0 := by decide +kernel
theorem dX9_isThrough_0 : decode cX9_isThrough 0 = .ok (.aload_n 0, 1) := dk_42 (dk_at dksX9_isThrough_0 0 rfl rfl)
theorem dX9_isThrough_1 : decode cX9_isThrough 1 = .ok (.iload_n 1, 1) := dk_27 (dk_at dksX9_isThrough_0 1 rfl rfl)
theorem dX9_isThrough_2 : decode cX9_isThrough 2 = .ok (.bipush 47, 2) := dk_16 47 (dk_at dksX9_isThrough_0 2 rfl rfl)
theorem dX9_isThrough_4 : decode cX9_isThrough 4 = .ok (.invokevirtual 256, 3) := dk_182 1 0 (dk_at dksX9_isThrough_0 4 rfl rfl)
theorem dX9_isThrough_7 : decode cX9_isThrough 7 = .ok (.ifCond .le 7, 3) := dk_158 0 7 (dk_at dksX9_isThrough_0 7 rfl rfl)
theorem dX9_isThrough_10 : decode cX9_isThrough 10 = .ok (.iconst 1, 1) := dk_4 (dk_at dksX9_isThrough_0 10 rfl rfl)
theorem dX9_isThrough_11 : decode cX9_isThrough 11 = .ok (.goto 4, 3) := dk_167 0 4 (dk_at dksX9_isThrough_0 11 rfl rfl)
theorem dX9_isThrough_14 : decode cX9_isThrough 14 = .ok (.iconst 0, 1) := dk_3 (dk_at dksX9_isThrough_0 14 rfl rfl)
theorem dX9_isThrough_15 : decode cX9_isThrough 15 = .ok (.ireturn, 1) := dk_172 (dk_at dksX9_isThrough_0 15 rfl rfl)
abbrev cX9_sum : ByteArray := prog_17_method_88_code
def yX9_sum : MethodName := ⟨RX9, "sum", "(III)I"⟩
def dkwX9_sum_1 : List UInt8 := [184, 0, 124, 153, 0, 17, 42, 42, 27, 28, 29, 182, 0, 181, 182, 0, 174, 167, 0, 4, 2, 172]
abbrev dktX9_sum_1 : List UInt8 := dkwX9_sum_1 ++ []
def dkwX9_sum_0 : List UInt8 := [42, 3, 181, 0, 49, 42, 27, 182, 1, 40, 153, 0, 34, 42, 28, 182, 1, 64, 153, 0, 26, 29, 3, 7]
abbrev dktX9_sum_0 : List UInt8 := dkwX9_sum_0 ++ dktX9_sum_1
theorem dksX9_sum_0 : cX9_sum.data.toList.drop 0 = dktX9_sum_0 := by decide +kernel
theorem dksX9_sum_1 : cX9_sum.data.toList.drop 24 = dktX9_sum_1 := dk_seg dksX9_sum_0 24 rfl rfl
theorem dX9_sum_0 : decode cX9_sum 0 = .ok (.aload_n 0, 1) := dk_42 (dk_at dksX9_sum_0 0 rfl rfl)
theorem dX9_sum_1 : decode cX9_sum 1 = .ok (.iconst 0, 1) := dk_3 (dk_at dksX9_sum_0 1 rfl rfl)
theorem dX9_sum_2 : decode cX9_sum 2 = .ok (.putfield 49, 3) := dk_181 0 49 (dk_at dksX9_sum_0 2 rfl rfl)
theorem dX9_sum_5 : decode cX9_sum 5 = .ok (.aload_n 0, 1) := dk_42 (dk_at dksX9_sum_0 5 rfl rfl)
theorem dX9_sum_6 : decode cX9_sum 6 = .ok (.iload_n 1, 1) := dk_27 (dk_at dksX9_sum_0 6 rfl rfl)
theorem dX9_sum_7 : decode cX9_sum 7 = .ok (.invokevirtual 296, 3) := dk_182 1 40 (dk_at dksX9_sum_0 7 rfl rfl)
theorem dX9_sum_10 : decode cX9_sum 10 = .ok (.ifCond .eq 34, 3) := dk_153 0 34 (dk_at dksX9_sum_0 10 rfl rfl)
theorem dX9_sum_13 : decode cX9_sum 13 = .ok (.aload_n 0, 1) := dk_42 (dk_at dksX9_sum_0 13 rfl rfl)
theorem dX9_sum_14 : decode cX9_sum 14 = .ok (.iload_n 2, 1) := dk_28 (dk_at dksX9_sum_0 14 rfl rfl)
theorem dX9_sum_15 : decode cX9_sum 15 = .ok (.invokevirtual 320, 3) := dk_182 1 64 (dk_at dksX9_sum_0 15 rfl rfl)
theorem dX9_sum_18 : decode cX9_sum 18 = .ok (.ifCond .eq 26, 3) := dk_153 0 26 (dk_at dksX9_sum_0 18 rfl rfl)
theorem dX9_sum_21 : decode cX9_sum 21 = .ok (.iload_n 3, 1) := dk_29 (dk_at dksX9_sum_0 21 rfl rfl)
theorem dX9_sum_22 : decode cX9_sum 22 = .ok (.iconst 0, 1) := dk_3 (dk_at dksX9_sum_0 22 rfl rfl)
theorem dX9_sum_23 : decode cX9_sum 23 = .ok (.iconst 4, 1) := dk_7 (dk_at dksX9_sum_0 23 rfl rfl)
theorem dX9_sum_24 : decode cX9_sum 24 = .ok (.invokestatic 124, 3) := dk_184 0 124 (dk_at dksX9_sum_1 0 rfl rfl)
theorem dX9_sum_27 : decode cX9_sum 27 = .ok (.ifCond .eq 17, 3) := dk_153 0 17 (dk_at dksX9_sum_1 3 rfl rfl)
theorem dX9_sum_30 : decode cX9_sum 30 = .ok (.aload_n 0, 1) := dk_42 (dk_at dksX9_sum_1 6 rfl rfl)
theorem dX9_sum_31 : decode cX9_sum 31 = .ok (.aload_n 0, 1) := dk_42 (dk_at dksX9_sum_1 7 rfl rfl)
theorem dX9_sum_32 : decode cX9_sum 32 = .ok (.iload_n 1, 1) := dk_27 (dk_at dksX9_sum_1 8 rfl rfl)
theorem dX9_sum_33 : decode cX9_sum 33 = .ok (.iload_n 2, 1) := dk_28 (dk_at dksX9_sum_1 9 rfl rfl)
theorem dX9_sum_34 : decode cX9_sum 34 = .ok (.iload_n 3, 1) := dk_29 (dk_at dksX9_sum_1 10 rfl rfl)
theorem dX9_sum_35 : decode cX9_sum 35 = .ok (.invokevirtual 181, 3) := dk_182 0 181 (dk_at dksX9_sum_1 11 rfl rfl)
theorem dX9_sum_38 : decode cX9_sum 38 = .ok (.invokevirtual 174, 3) := dk_182 0 174 (dk_at dksX9_sum_1 14 rfl rfl)
theorem dX9_sum_41 : decode cX9_sum 41 = .ok (.goto 4, 3) := dk_167 0 4 (dk_at dksX9_sum_1 17 rfl rfl)
theorem dX9_sum_44 : decode cX9_sum 44 = .ok (.iconst (-1), 1) := dk_2 (dk_at dksX9_sum_1 20 rfl rfl)
theorem dX9_sum_45 : decode cX9_sum 45 = .ok (.ireturn, 1) := dk_172 (dk_at dksX9_sum_1 21 rfl rfl)
abbrev cX9_isQuarter : ByteArray := prog_17_method_71_code
def yX9_isQuarter : MethodName := ⟨RX9, "isQuarter", "(I)Z"⟩
def dkwX9_isQuarter_0 : List UInt8 := [27, 155, 0, 13, 27, 16, 64, 162, 0, 7, 4, 167, 0, 4, 3, 172]
abbrev dktX9_isQuarter_0 : List UInt8 := dkwX9_isQuarter_0 ++ []
theorem dksX9_isQuarter_0 : cX9_isQuarter.data.toList.drop 0 = dktX9_isQuarter_0 := by decide +kernel
theorem dX9_isQuarter_0 : decode cX9_isQuarter 0 = .ok (.iload_n 1, 1) := dk_27 (dk_at dksX9_isQuarter_0 0 rfl rfl)
theorem dX9_isQuarter_1 : decode cX9_isQuarter 1 = .ok (.ifCond .lt 13, 3) := dk_155 0 13 (dk_at dksX9_isQuarter_0 1 rfl rfl)
theorem dX9_isQuarter_4 : decode cX9_isQuarter 4 = .ok (.iload_n 1, 1) := dk_27 (dk_at dksX9_isQuarter_0 4 rfl rfl)
theorem dX9_isQuarter_5 : decode cX9_isQuarter 5 = .ok (.bipush 64, 2) := dk_16 64 (dk_at dksX9_isQuarter_0 5 rfl rfl)
theorem dX9_isQuarter_7 : decode cX9_isQuarter 7 = .ok (.if_icmp .ge 7, 3) := dk_162 0 7 (dk_at dksX9_isQuarter_0 7 rfl rfl)
theorem dX9_isQuarter_10 : decode cX9_isQuarter 10 = .ok (.iconst 1, 1) := dk_4 (dk_at dksX9_isQuarter_0 10 rfl rfl)
theorem dX9_isQuarter_11 : decode cX9_isQuarter 11 = .ok (.goto 4, 3) := dk_167 0 4 (dk_at dksX9_isQuarter_0 11 rfl rfl)
theorem dX9_isQuarter_14 : decode cX9_isQuarter 14 = .ok (.iconst 0, 1) := dk_3 (dk_at dksX9_isQuarter_0 14 rfl rfl)
theorem dX9_isQuarter_15 : decode cX9_isQuarter 15 = .ok (.ireturn, 1) := dk_172 (dk_at dksX9_isQuarter_0 15 rfl rfl)
abbrev cX9_provisional : ByteArray := prog_17_method_89_code
def yX9_provisional : MethodName := ⟨RX9, "provisional", "(II)I"⟩
def dkwX9_provisional_3 : List UInt8 := [182, 0, 246, 172]
abbrev dktX9_provisional_3 : List UInt8 := dkwX9_provisional_3 ++ []
def dkwX9_provisional_2 : List UInt8 := [16, 64, 27, 104, 96, 28, 96, 182, 0, 174, 167, 0, 15, 42, 27, 28, 42, 27, 5, 182, 0, 115]
abbrev dktX9_provisional_2 : List UInt8 := dkwX9_provisional_2 ++ dktX9_provisional_3
def dkwX9_provisional_1 : List UInt8 := [42, 3, 182, 0, 174, 164, 0, 6, 16, 254, 172, 28, 42, 3, 182, 0, 174, 162, 0, 20, 42, 17, 5, 9]
abbrev dktX9_provisional_1 : List UInt8 := dkwX9_provisional_1 ++ dktX9_provisional_2
def dkwX9_provisional_0 : List UInt8 := [42, 3, 181, 0, 49, 42, 27, 182, 1, 40, 153, 0, 11, 42, 28, 182, 1, 64, 154, 0, 5, 2, 172, 28]
abbrev dktX9_provisional_0 : List UInt8 := dkwX9_provisional_0 ++ dktX9_provisional_1
theorem dksX9_provisional_0 : cX9_provisional.data.toList.drop 0 = dktX9_provisional_0 := by decide +kernel
theorem dksX9_provisional_1 : cX9_provisional.data.toList.drop 24 = dktX9_provisional_1 := dk_seg dksX9_provisional_0 24 rfl rfl
theorem dksX9_provisional_2 : cX9_provisional.data.toList.drop 48 = dktX9_provisional_2 := dk_seg dksX9_provisional_1 24 rfl rfl
theorem dksX9_provisional_3 : cX9_provisional.data.toList.drop 70 = dktX9_provisional_3 := dk_seg dksX9_provisional_2 22 rfl rfl
theorem dX9_provisional_0 : decode cX9_provisional 0 = .ok (.aload_n 0, 1) := dk_42 (dk_at dksX9_provisional_0 0 rfl rfl)
theorem dX9_provisional_1 : decode cX9_provisional 1 = .ok (.iconst 0, 1) := dk_3 (dk_at dksX9_provisional_0 1 rfl rfl)
theorem dX9_provisional_2 : decode cX9_provisional 2 = .ok (.putfield 49, 3) := dk_181 0 49 (dk_at dksX9_provisional_0 2 rfl rfl)
theorem dX9_provisional_5 : decode cX9_provisional 5 = .ok (.aload_n 0, 1) := dk_42 (dk_at dksX9_provisional_0 5 rfl rfl)
theorem dX9_provisional_6 : decode cX9_provisional 6 = .ok (.iload_n 1, 1) := dk_27 (dk_at dksX9_provisional_0 6 rfl rfl)
theorem dX9_provisional_7 : decode cX9_provisional 7 = .ok (.invokevirtual 296, 3) := dk_182 1 40 (dk_at dksX9_provisional_0 7 rfl rfl)
theorem dX9_provisional_10 : decode cX9_provisional 10 = .ok (.ifCond .eq 11, 3) := dk_153 0 11 (dk_at dksX9_provisional_0 10 rfl rfl)
theorem dX9_provisional_13 : decode cX9_provisional 13 = .ok (.aload_n 0, 1) := dk_42 (dk_at dksX9_provisional_0 13 rfl rfl)
theorem dX9_provisional_14 : decode cX9_provisional 14 = .ok (.iload_n 2, 1) := dk_28 (dk_at dksX9_provisional_0 14 rfl rfl)
theorem dX9_provisional_15 : decode cX9_provisional 15 = .ok (.invokevirtual 320, 3) := dk_182 1 64 (dk_at dksX9_provisional_0 15 rfl rfl)
theorem dX9_provisional_18 : decode cX9_provisional 18 = .ok (.ifCond .ne 5, 3) := dk_154 0 5 (dk_at dksX9_provisional_0 18 rfl rfl)
theorem dX9_provisional_21 : decode cX9_provisional 21 = .ok (.iconst (-1), 1) := dk_2 (dk_at dksX9_provisional_0 21 rfl rfl)
theorem dX9_provisional_22 : decode cX9_provisional 22 = .ok (.ireturn, 1) := dk_172 (dk_at dksX9_provisional_0 22 rfl rfl)
theorem dX9_provisional_23 : decode cX9_provisional 23 = .ok (.iload_n 2, 1) := dk_28 (dk_at dksX9_provisional_0 23 rfl rfl)
theorem dX9_provisional_24 : decode cX9_provisional 24 = .ok (.aload_n 0, 1) := dk_42 (dk_at dksX9_provisional_1 0 rfl rfl)
theorem dX9_provisional_25 : decode cX9_provisional 25 = .ok (.iconst 0, 1) := dk_3 (dk_at dksX9_provisional_1 1 rfl rfl)
theorem dX9_provisional_26 : decode cX9_provisional 26 = .ok (.invokevirtual 174, 3) := dk_182 0 174 (dk_at dksX9_provisional_1 2 rfl rfl)
theorem dX9_provisional_29 : decode cX9_provisional 29 = .ok (.if_icmp .le 6, 3) := dk_164 0 6 (dk_at dksX9_provisional_1 5 rfl rfl)
theorem dX9_provisional_32 : decode cX9_provisional 32 = .ok (.bipush (-2), 2) := dk_16 254 (dk_at dksX9_provisional_1 8 rfl rfl)
theorem dX9_provisional_34 : decode cX9_provisional 34 = .ok (.ireturn, 1) := dk_172 (dk_at dksX9_provisional_1 10 rfl rfl)
theorem dX9_provisional_35 : decode cX9_provisional 35 = .ok (.iload_n 2, 1) := dk_28 (dk_at dksX9_provisional_1 11 rfl rfl)
theorem dX9_provisional_36 : decode cX9_provisional 36 = .ok (.aload_n 0, 1) := dk_42 (dk_at dksX9_provisional_1 12 rfl rfl)
theorem dX9_provisional_37 : decode cX9_provisional 37 = .ok (.iconst 0, 1) := dk_3 (dk_at dksX9_provisional_1 13 rfl rfl)
theorem dX9_provisional_38 : decode cX9_provisional 38 = .ok (.invokevirtual 174, 3) := dk_182 0 174 (dk_at dksX9_provisional_1 14 rfl rfl)
theorem dX9_provisional_41 : decode cX9_provisional 41 = .ok (.if_icmp .ge 20, 3) := dk_162 0 20 (dk_at dksX9_provisional_1 17 rfl rfl)
theorem dX9_provisional_44 : decode cX9_provisional 44 = .ok (.aload_n 0, 1) := dk_42 (dk_at dksX9_provisional_1 20 rfl rfl)
theorem dX9_provisional_45 : decode cX9_provisional 45 = .ok (.sipush 1289, 3) := dk_17 5 9 (dk_at dksX9_provisional_1 21 rfl rfl)
theorem dX9_provisional_48 : decode cX9_provisional 48 = .ok (.bipush 64, 2) := dk_16 64 (dk_at dksX9_provisional_2 0 rfl rfl)
theorem dX9_provisional_50 : decode cX9_provisional 50 = .ok (.iload_n 1, 1) := dk_27 (dk_at dksX9_provisional_2 2 rfl rfl)
theorem dX9_provisional_51 : decode cX9_provisional 51 = .ok (.imul, 1) := dk_104 (dk_at dksX9_provisional_2 3 rfl rfl)
theorem dX9_provisional_52 : decode cX9_provisional 52 = .ok (.iadd, 1) := dk_96 (dk_at dksX9_provisional_2 4 rfl rfl)
theorem dX9_provisional_53 : decode cX9_provisional 53 = .ok (.iload_n 2, 1) := dk_28 (dk_at dksX9_provisional_2 5 rfl rfl)
theorem dX9_provisional_54 : decode cX9_provisional 54 = .ok (.iadd, 1) := dk_96 (dk_at dksX9_provisional_2 6 rfl rfl)
theorem dX9_provisional_55 : decode cX9_provisional 55 = .ok (.invokevirtual 174, 3) := dk_182 0 174 (dk_at dksX9_provisional_2 7 rfl rfl)
theorem dX9_provisional_58 : decode cX9_provisional 58 = .ok (.goto 15, 3) := dk_167 0 15 (dk_at dksX9_provisional_2 10 rfl rfl)
theorem dX9_provisional_61 : decode cX9_provisional 61 = .ok (.aload_n 0, 1) := dk_42 (dk_at dksX9_provisional_2 13 rfl rfl)
theorem dX9_provisional_62 : decode cX9_provisional 62 = .ok (.iload_n 1, 1) := dk_27 (dk_at dksX9_provisional_2 14 rfl rfl)
theorem dX9_provisional_63 : decode cX9_provisional 63 = .ok (.iload_n 2, 1) := dk_28 (dk_at dksX9_provisional_2 15 rfl rfl)
theorem dX9_provisional_64 : decode cX9_provisional 64 = .ok (.aload_n 0, 1) := dk_42 (dk_at dksX9_provisional_2 16 rfl rfl)
theorem dX9_provisional_65 : decode cX9_provisional 65 = .ok (.iload_n 1, 1) := dk_27 (dk_at dksX9_provisional_2 17 rfl rfl)
theorem dX9_provisional_66 : decode cX9_provisional 66 = .ok (.iconst 2, 1) := dk_5 (dk_at dksX9_provisional_2 18 rfl rfl)
theorem dX9_provisional_67 : decode cX9_provisional 67 = .ok (.invokevirtual 115, 3) := dk_182 0 115 (dk_at dksX9_provisional_2 19 rfl rfl)
theorem dX9_provisional_70 : decode cX9_provisional 70 = .ok (.invokevirtual 246, 3) := dk_182 0 246 (dk_at dksX9_provisional_3 0 rfl rfl)
theorem dX9_provisional_73 : decode cX9_provisional 73 = .ok (.ireturn, 1) := dk_172 (dk_at dksX9_provisional_3 3 rfl rfl)
abbrev cX9_recovered : ByteArray := prog_17_method_90_code
def yX9_recovered : MethodName := ⟨RX9, "recovered", "(II)I"⟩
def dkwX9_recovered_2 : List UInt8 := [167, 0, 5, 16, 254, 172]
abbrev dktX9_recovered_2 : List UInt8 := dkwX9_recovered_2 ++ []
def dkwX9_recovered_1 : List UInt8 := [42, 3, 182, 0, 174, 162, 0, 20, 42, 17, 6, 9, 16, 64, 27, 104, 96, 28, 96, 182, 0, 174]
abbrev dktX9_recovered_1 : List UInt8 := dkwX9_recovered_1 ++ dktX9_recovered_2
def dkwX9_recovered_0 : List UInt8 := [42, 3, 181, 0, 49, 42, 27, 182, 1, 40, 153, 0, 11, 42, 28, 182, 1, 64, 154, 0, 5, 2, 172, 28]
abbrev dktX9_recovered_0 : List UInt8 := dkwX9_recovered_0 ++ dktX9_recovered_1
theorem dksX9_recovered_0 : cX9_recovered.data.toList.drop 0 = dktX9_recovered_0 := by decide +kernel
theorem dksX9_recovered_1 : cX9_recovered.data.toList.drop 24 = dktX9_recovered_1 := dk_seg dksX9_recovered_0 24 rfl rfl
theorem dksX9_recovered_2 : cX9_recovered.data.toList.drop 46 = dktX9_recovered_2 := dk_seg dksX9_recovered_1 22 rfl rfl
theorem dX9_recovered_0 : decode cX9_recovered 0 = .ok (.aload_n 0, 1) := dk_42 (dk_at dksX9_recovered_0 0 rfl rfl)
theorem dX9_recovered_1 : decode cX9_recovered 1 = .ok (.iconst 0, 1) := dk_3 (dk_at dksX9_recovered_0 1 rfl rfl)
theorem dX9_recovered_2 : decode cX9_recovered 2 = .ok (.putfield 49, 3) := dk_181 0 49 (dk_at dksX9_recovered_0 2 rfl rfl)
theorem dX9_recovered_5 : decode cX9_recovered 5 = .ok (.aload_n 0, 1) := dk_42 (dk_at dksX9_recovered_0 5 rfl rfl)
theorem dX9_recovered_6 : decode cX9_recovered 6 = .ok (.iload_n 1, 1) := dk_27 (dk_at dksX9_recovered_0 6 rfl rfl)
theorem dX9_recovered_7 : decode cX9_recovered 7 = .ok (.invokevirtual 296, 3) := dk_182 1 40 (dk_at dksX9_recovered_0 7 rfl rfl)
theorem dX9_recovered_10 : decode cX9_recovered 10 = .ok (.ifCond .eq 11, 3) := dk_153 0 11 (dk_at dksX9_recovered_0 10 rfl rfl)
theorem dX9_recovered_13 : decode cX9_recovered 13 = .ok (.aload_n 0, 1) := dk_42 (dk_at dksX9_recovered_0 13 rfl rfl)
theorem dX9_recovered_14 : decode cX9_recovered 14 = .ok (.iload_n 2, 1) := dk_28 (dk_at dksX9_recovered_0 14 rfl rfl)
theorem dX9_recovered_15 : decode cX9_recovered 15 = .ok (.invokevirtual 320, 3) := dk_182 1 64 (dk_at dksX9_recovered_0 15 rfl rfl)
theorem dX9_recovered_18 : decode cX9_recovered 18 = .ok (.ifCond .ne 5, 3) := dk_154 0 5 (dk_at dksX9_recovered_0 18 rfl rfl)
theorem dX9_recovered_21 : decode cX9_recovered 21 = .ok (.iconst (-1), 1) := dk_2 (dk_at dksX9_recovered_0 21 rfl rfl)
theorem dX9_recovered_22 : decode cX9_recovered 22 = .ok (.ireturn, 1) := dk_172 (dk_at dksX9_recovered_0 22 rfl rfl)
theorem dX9_recovered_23 : decode cX9_recovered 23 = .ok (.iload_n 2, 1) := dk_28 (dk_at dksX9_recovered_0 23 rfl rfl)
theorem dX9_recovered_24 : decode cX9_recovered 24 = .ok (.aload_n 0, 1) := dk_42 (dk_at dksX9_recovered_1 0 rfl rfl)
theorem dX9_recovered_25 : decode cX9_recovered 25 = .ok (.iconst 0, 1) := dk_3 (dk_at dksX9_recovered_1 1 rfl rfl)
theorem dX9_recovered_26 : decode cX9_recovered 26 = .ok (.invokevirtual 174, 3) := dk_182 0 174 (dk_at dksX9_recovered_1 2 rfl rfl)
theorem dX9_recovered_29 : decode cX9_recovered 29 = .ok (.if_icmp .ge 20, 3) := dk_162 0 20 (dk_at dksX9_recovered_1 5 rfl rfl)
theorem dX9_recovered_32 : decode cX9_recovered 32 = .ok (.aload_n 0, 1) := dk_42 (dk_at dksX9_recovered_1 8 rfl rfl)
theorem dX9_recovered_33 : decode cX9_recovered 33 = .ok (.sipush 1545, 3) := dk_17 6 9 (dk_at dksX9_recovered_1 9 rfl rfl)
theorem dX9_recovered_36 : decode cX9_recovered 36 = .ok (.bipush 64, 2) := dk_16 64 (dk_at dksX9_recovered_1 12 rfl rfl)
theorem dX9_recovered_38 : decode cX9_recovered 38 = .ok (.iload_n 1, 1) := dk_27 (dk_at dksX9_recovered_1 14 rfl rfl)
theorem dX9_recovered_39 : decode cX9_recovered 39 = .ok (.imul, 1) := dk_104 (dk_at dksX9_recovered_1 15 rfl rfl)
theorem dX9_recovered_40 : decode cX9_recovered 40 = .ok (.iadd, 1) := dk_96 (dk_at dksX9_recovered_1 16 rfl rfl)
theorem dX9_recovered_41 : decode cX9_recovered 41 = .ok (.iload_n 2, 1) := dk_28 (dk_at dksX9_recovered_1 17 rfl rfl)
theorem dX9_recovered_42 : decode cX9_recovered 42 = .ok (.iadd, 1) := dk_96 (dk_at dksX9_recovered_1 18 rfl rfl)
theorem dX9_recovered_43 : decode cX9_recovered 43 = .ok (.invokevirtual 174, 3) := dk_182 0 174 (dk_at dksX9_recovered_1 19 rfl rfl)
theorem dX9_recovered_46 : decode cX9_recovered 46 = .ok (.goto 5, 3) := dk_167 0 5 (dk_at dksX9_recovered_2 0 rfl rfl)
theorem dX9_recovered_49 : decode cX9_recovered 49 = .ok (.bipush (-2), 2) := dk_16 254 (dk_at dksX9_recovered_2 3 rfl rfl)
theorem dX9_recovered_51 : decode cX9_recovered 51 = .ok (.ireturn, 1) := dk_172 (dk_at dksX9_recovered_2 5 rfl rfl)
abbrev cX9_annual : ByteArray := prog_17_method_93_code
def yX9_annual : MethodName := ⟨RX9, "annual", "(III)I"⟩
def dkwX9_annual_3 : List UInt8 := [167, 0, 16, 3, 167, 0, 12, 21, 4, 42, 27, 28, 182, 1, 5, 100, 172]
abbrev dktX9_annual_3 : List UInt8 := dkwX9_annual_3 ++ []
def dkwX9_annual_2 : List UInt8 := [4, 160, 0, 8, 21, 4, 167, 0, 32, 29, 5, 160, 0, 18, 42, 180, 0, 225, 153, 0, 7, 4]
abbrev dktX9_annual_2 : List UInt8 := dkwX9_annual_2 ++ dktX9_annual_3
def dkwX9_annual_1 : List UInt8 := [19, 1, 70, 172, 29, 154, 0, 10, 42, 27, 28, 182, 1, 35, 172, 42, 27, 28, 182, 1, 71, 54, 4, 29]
abbrev dktX9_annual_1 : List UInt8 := dkwX9_annual_1 ++ dktX9_annual_2
def dkwX9_annual_0 : List UInt8 := [42, 3, 181, 0, 49, 42, 27, 28, 182, 1, 67, 153, 0, 12, 29, 3, 6, 184, 0, 124, 154, 0, 7]
abbrev dktX9_annual_0 : List UInt8 := dkwX9_annual_0 ++ dktX9_annual_1
theorem dksX9_annual_0 : cX9_annual.data.toList.drop 0 = dktX9_annual_0 := by decide +kernel
theorem dksX9_annual_1 : cX9_annual.data.toList.drop 23 = dktX9_annual_1 := dk_seg dksX9_annual_0 23 rfl rfl
theorem dksX9_annual_2 : cX9_annual.data.toList.drop 47 = dktX9_annual_2 := dk_seg dksX9_annual_1 24 rfl rfl
theorem dksX9_annual_3 : cX9_annual.data.toList.drop 69 = dktX9_annual_3 := dk_seg dksX9_annual_2 22 rfl rfl
theorem dX9_annual_0 : decode cX9_annual 0 = .ok (.aload_n 0, 1) := dk_42 (dk_at dksX9_annual_0 0 rfl rfl)
theorem dX9_annual_1 : decode cX9_annual 1 = .ok (.iconst 0, 1) := dk_3 (dk_at dksX9_annual_0 1 rfl rfl)
theorem dX9_annual_2 : decode cX9_annual 2 = .ok (.putfield 49, 3) := dk_181 0 49 (dk_at dksX9_annual_0 2 rfl rfl)
theorem dX9_annual_5 : decode cX9_annual 5 = .ok (.aload_n 0, 1) := dk_42 (dk_at dksX9_annual_0 5 rfl rfl)
theorem dX9_annual_6 : decode cX9_annual 6 = .ok (.iload_n 1, 1) := dk_27 (dk_at dksX9_annual_0 6 rfl rfl)
theorem dX9_annual_7 : decode cX9_annual 7 = .ok (.iload_n 2, 1) := dk_28 (dk_at dksX9_annual_0 7 rfl rfl)
theorem dX9_annual_8 : decode cX9_annual 8 = .ok (.invokevirtual 323, 3) := dk_182 1 67 (dk_at dksX9_annual_0 8 rfl rfl)
theorem dX9_annual_11 : decode cX9_annual 11 = .ok (.ifCond .eq 12, 3) := dk_153 0 12 (dk_at dksX9_annual_0 11 rfl rfl)
theorem dX9_annual_14 : decode cX9_annual 14 = .ok (.iload_n 3, 1) := dk_29 (dk_at dksX9_annual_0 14 rfl rfl)
theorem dX9_annual_15 : decode cX9_annual 15 = .ok (.iconst 0, 1) := dk_3 (dk_at dksX9_annual_0 15 rfl rfl)
theorem dX9_annual_16 : decode cX9_annual 16 = .ok (.iconst 3, 1) := dk_6 (dk_at dksX9_annual_0 16 rfl rfl)
theorem dX9_annual_17 : decode cX9_annual 17 = .ok (.invokestatic 124, 3) := dk_184 0 124 (dk_at dksX9_annual_0 17 rfl rfl)
theorem dX9_annual_20 : decode cX9_annual 20 = .ok (.ifCond .ne 7, 3) := dk_154 0 7 (dk_at dksX9_annual_0 20 rfl rfl)
theorem dX9_annual_23 : decode cX9_annual 23 = .ok (.ldc_w 326, 3) := dk_19 1 70 (dk_at dksX9_annual_1 0 rfl rfl)
theorem dX9_annual_26 : decode cX9_annual 26 = .ok (.ireturn, 1) := dk_172 (dk_at dksX9_annual_1 3 rfl rfl)
theorem dX9_annual_27 : decode cX9_annual 27 = .ok (.iload_n 3, 1) := dk_29 (dk_at dksX9_annual_1 4 rfl rfl)
theorem dX9_annual_28 : decode cX9_annual 28 = .ok (.ifCond .ne 10, 3) := dk_154 0 10 (dk_at dksX9_annual_1 5 rfl rfl)
theorem dX9_annual_31 : decode cX9_annual 31 = .ok (.aload_n 0, 1) := dk_42 (dk_at dksX9_annual_1 8 rfl rfl)
theorem dX9_annual_32 : decode cX9_annual 32 = .ok (.iload_n 1, 1) := dk_27 (dk_at dksX9_annual_1 9 rfl rfl)
theorem dX9_annual_33 : decode cX9_annual 33 = .ok (.iload_n 2, 1) := dk_28 (dk_at dksX9_annual_1 10 rfl rfl)
theorem dX9_annual_34 : decode cX9_annual 34 = .ok (.invokevirtual 291, 3) := dk_182 1 35 (dk_at dksX9_annual_1 11 rfl rfl)
theorem dX9_annual_37 : decode cX9_annual 37 = .ok (.ireturn, 1) := dk_172 (dk_at dksX9_annual_1 14 rfl rfl)
theorem dX9_annual_38 : decode cX9_annual 38 = .ok (.aload_n 0, 1) := dk_42 (dk_at dksX9_annual_1 15 rfl rfl)
theorem dX9_annual_39 : decode cX9_annual 39 = .ok (.iload_n 1, 1) := dk_27 (dk_at dksX9_annual_1 16 rfl rfl)
theorem dX9_annual_40 : decode cX9_annual 40 = .ok (.iload_n 2, 1) := dk_28 (dk_at dksX9_annual_1 17 rfl rfl)
theorem dX9_annual_41 : decode cX9_annual 41 = .ok (.invokevirtual 327, 3) := dk_182 1 71 (dk_at dksX9_annual_1 18 rfl rfl)
theorem dX9_annual_44 : decode cX9_annual 44 = .ok (.istore 4, 2) := dk_54 4 (dk_at dksX9_annual_1 21 rfl rfl)
theorem dX9_annual_46 : decode cX9_annual 46 = .ok (.iload_n 3, 1) := dk_29 (dk_at dksX9_annual_1 23 rfl rfl)
theorem dX9_annual_47 : decode cX9_annual 47 = .ok (.iconst 1, 1) := dk_4 (dk_at dksX9_annual_2 0 rfl rfl)
theorem dX9_annual_48 : decode cX9_annual 48 = .ok (.if_icmp .ne 8, 3) := dk_160 0 8 (dk_at dksX9_annual_2 1 rfl rfl)
theorem dX9_annual_51 : decode cX9_annual 51 = .ok (.iload 4, 2) := dk_21 4 (dk_at dksX9_annual_2 4 rfl rfl)
theorem dX9_annual_53 : decode cX9_annual 53 = .ok (.goto 32, 3) := dk_167 0 32 (dk_at dksX9_annual_2 6 rfl rfl)
theorem dX9_annual_56 : decode cX9_annual 56 = .ok (.iload_n 3, 1) := dk_29 (dk_at dksX9_annual_2 9 rfl rfl)
theorem dX9_annual_57 : decode cX9_annual 57 = .ok (.iconst 2, 1) := dk_5 (dk_at dksX9_annual_2 10 rfl rfl)
theorem dX9_annual_58 : decode cX9_annual 58 = .ok (.if_icmp .ne 18, 3) := dk_160 0 18 (dk_at dksX9_annual_2 11 rfl rfl)
theorem dX9_annual_61 : decode cX9_annual 61 = .ok (.aload_n 0, 1) := dk_42 (dk_at dksX9_annual_2 14 rfl rfl)
theorem dX9_annual_62 : decode cX9_annual 62 = .ok (.getfield 225, 3) := dk_180 0 225 (dk_at dksX9_annual_2 15 rfl rfl)
theorem dX9_annual_65 : decode cX9_annual 65 = .ok (.ifCond .eq 7, 3) := dk_153 0 7 (dk_at dksX9_annual_2 18 rfl rfl)
theorem dX9_annual_68 : decode cX9_annual 68 = .ok (.iconst 1, 1) := dk_4 (dk_at dksX9_annual_2 21 rfl rfl)
theorem dX9_annual_69 : decode cX9_annual 69 = .ok (.goto 16, 3) := dk_167 0 16 (dk_at dksX9_annual_3 0 rfl rfl)
theorem dX9_annual_72 : decode cX9_annual 72 = .ok (.iconst 0, 1) := dk_3 (dk_at dksX9_annual_3 3 rfl rfl)
theorem dX9_annual_73 : decode cX9_annual 73 = .ok (.goto 12, 3) := dk_167 0 12 (dk_at dksX9_annual_3 4 rfl rfl)
theorem dX9_annual_76 : decode cX9_annual 76 = .ok (.iload 4, 2) := dk_21 4 (dk_at dksX9_annual_3 7 rfl rfl)
theorem dX9_annual_78 : decode cX9_annual 78 = .ok (.aload_n 0, 1) := dk_42 (dk_at dksX9_annual_3 9 rfl rfl)
theorem dX9_annual_79 : decode cX9_annual 79 = .ok (.iload_n 1, 1) := dk_27 (dk_at dksX9_annual_3 10 rfl rfl)
theorem dX9_annual_80 : decode cX9_annual 80 = .ok (.iload_n 2, 1) := dk_28 (dk_at dksX9_annual_3 11 rfl rfl)
theorem dX9_annual_81 : decode cX9_annual 81 = .ok (.invokevirtual 261, 3) := dk_182 1 5 (dk_at dksX9_annual_3 12 rfl rfl)
theorem dX9_annual_84 : decode cX9_annual 84 = .ok (.isub, 1) := dk_100 (dk_at dksX9_annual_3 15 rfl rfl)
theorem dX9_annual_85 : decode cX9_annual 85 = .ok (.ireturn, 1) := dk_172 (dk_at dksX9_annual_3 16 rfl rfl)
abbrev cX9_isYear : ByteArray := prog_17_method_91_code
def yX9_isYear : MethodName := ⟨RX9, "isYear", "(II)Z"⟩
def dkwX9_isYear_1 : List UInt8 := [3, 172]
abbrev dktX9_isYear_1 : List UInt8 := dkwX9_isYear_1 ++ []
def dkwX9_isYear_0 : List UInt8 := [42, 27, 182, 1, 40, 153, 0, 19, 28, 155, 0, 15, 28, 42, 182, 0, 233, 163, 0, 7, 4, 167, 0, 4]
abbrev dktX9_isYear_0 : List UInt8 := dkwX9_isYear_0 ++ dktX9_isYear_1
theorem dksX9_isYear_0 : cX9_isYear.data.toList.drop 0 = dktX9_isYear_0 := by decide +kernel
theorem dksX9_isYear_1 : cX9_isYear.data.toList.drop 24 = dktX9_isYear_1 := dk_seg dksX9_isYear_0 24 rfl rfl
theorem dX9_isYear_0 : decode cX9_isYear 0 = .ok (.aload_n 0, 1) := dk_42 (dk_at dksX9_isYear_0 0 rfl rfl)
theorem dX9_isYear_1 : decode cX9_isYear 1 = .ok (.iload_n 1, 1) := dk_27 (dk_at dksX9_isYear_0 1 rfl rfl)
theorem dX9_isYear_2 : decode cX9_isYear 2 = .ok (.invokevirtual 296, 3) := dk_182 1 40 (dk_at dksX9_isYear_0 2 rfl rfl)
theorem dX9_isYear_5 : decode cX9_isYear 5 = .ok (.ifCond .eq 19, 3) := dk_153 0 19 (dk_at dksX9_isYear_0 5 rfl rfl)
theorem dX9_isYear_8 : decode cX9_isYear 8 = .ok (.iload_n 2, 1) := dk_28 (dk_at dksX9_isYear_0 8 rfl rfl)
theorem dX9_isYear_9 : decode cX9_isYear 9 = .ok (.ifCond .lt 15, 3) := dk_155 0 15 (dk_at dksX9_isYear_0 9 rfl rfl)
theorem dX9_isYear_12 : decode cX9_isYear 12 = .ok (.iload_n 2, 1) := dk_28 (dk_at dksX9_isYear_0 12 rfl rfl)
theorem dX9_isYear_13 : decode cX9_isYear 13 = .ok (.aload_n 0, 1) := dk_42 (dk_at dksX9_isYear_0 13 rfl rfl)
theorem dX9_isYear_14 : decode cX9_isYear 14 = .ok (.invokevirtual 233, 3) := dk_182 0 233 (dk_at dksX9_isYear_0 14 rfl rfl)
theorem dX9_isYear_17 : decode cX9_isYear 17 = .ok (.if_icmp .gt 7, 3) := dk_163 0 7 (dk_at dksX9_isYear_0 17 rfl rfl)
theorem dX9_isYear_20 : decode cX9_isYear 20 = .ok (.iconst 1, 1) := dk_4 (dk_at dksX9_isYear_0 20 rfl rfl)
theorem dX9_isYear_21 : decode cX9_isYear 21 = .ok (.goto 4, 3) := dk_167 0 4 (dk_at dksX9_isYear_0 21 rfl rfl)
theorem dX9_isYear_24 : decode cX9_isYear 24 = .ok (.iconst 0, 1) := dk_3 (dk_at dksX9_isYear_1 0 rfl rfl)
theorem dX9_isYear_25 : decode cX9_isYear 25 = .ok (.ireturn, 1) := dk_172 (dk_at dksX9_isYear_1 1 rfl rfl)
abbrev cX9_backOf : ByteArray := prog_17_method_92_code
def yX9_backOf : MethodName := ⟨RX9, "backOf", "(II)I"⟩
def dkwX9_backOf_0 : List UInt8 := [42, 42, 27, 28, 182, 1, 35, 42, 180, 0, 32, 5, 46, 182, 0, 249, 172]
abbrev dktX9_backOf_0 : List UInt8 := dkwX9_backOf_0 ++ []
theorem dksX9_backOf_0 : cX9_backOf.data.toList.drop 0 = dktX9_backOf_0 := by decide +kernel
theorem dX9_backOf_0 : decode cX9_backOf 0 = .ok (.aload_n 0, 1) := dk_42 (dk_at dksX9_backOf_0 0 rfl rfl)
theorem dX9_backOf_1 : decode cX9_backOf 1 = .ok (.aload_n 0, 1) := dk_42 (dk_at dksX9_backOf_0 1 rfl rfl)
theorem dX9_backOf_2 : decode cX9_backOf 2 = .ok (.iload_n 1, 1) := dk_27 (dk_at dksX9_backOf_0 2 rfl rfl)
theorem dX9_backOf_3 : decode cX9_backOf 3 = .ok (.iload_n 2, 1) := dk_28 (dk_at dksX9_backOf_0 3 rfl rfl)
theorem dX9_backOf_4 : decode cX9_backOf 4 = .ok (.invokevirtual 291, 3) := dk_182 1 35 (dk_at dksX9_backOf_0 4 rfl rfl)
theorem dX9_backOf_7 : decode cX9_backOf 7 = .ok (.aload_n 0, 1) := dk_42 (dk_at dksX9_backOf_0 7 rfl rfl)
theorem dX9_backOf_8 : decode cX9_backOf 8 = .ok (.getfield 32, 3) := dk_180 0 32 (dk_at dksX9_backOf_0 8 rfl rfl)
theorem dX9_backOf_11 : decode cX9_backOf 11 = .ok (.iconst 2, 1) := dk_5 (dk_at dksX9_backOf_0 11 rfl rfl)
theorem dX9_backOf_12 : decode cX9_backOf 12 = .ok (.iaload, 1) := dk_46 (dk_at dksX9_backOf_0 12 rfl rfl)
theorem dX9_backOf_13 : decode cX9_backOf 13 = .ok (.invokevirtual 249, 3) := dk_182 0 249 (dk_at dksX9_backOf_0 13 rfl rfl)
theorem dX9_backOf_16 : decode cX9_backOf 16 = .ok (.ireturn, 1) := dk_172 (dk_at dksX9_backOf_0 16 rfl rfl)
abbrev cX9_interval : ByteArray := prog_17_method_94_code
def yX9_interval : MethodName := ⟨RX9, "interval", "(III)I"⟩
def dkwX9_interval_4 : List UInt8 := [16, 27, 28, 96, 182, 1, 0, 167, 0, 12, 42, 27, 16, 37, 28, 96, 182, 1, 0, 172]
abbrev dktX9_interval_4 : List UInt8 := dkwX9_interval_4 ++ []
def dkwX9_interval_3 : List UInt8 := [29, 4, 160, 0, 15, 42, 27, 16, 17, 28, 96, 182, 1, 0, 167, 0, 29, 29, 5, 160, 0, 15, 42, 27]
abbrev dktX9_interval_3 : List UInt8 := dkwX9_interval_3 ++ dktX9_interval_4
def dkwX9_interval_2 : List UInt8 := [161, 0, 7, 19, 1, 70, 172, 29, 154, 0, 16, 42, 27, 8, 182, 1, 0, 7, 108, 28, 96, 167, 0, 46]
abbrev dktX9_interval_2 : List UInt8 := dkwX9_interval_2 ++ dktX9_interval_3
def dkwX9_interval_1 : List UInt8 := [184, 0, 124, 153, 0, 23, 29, 3, 6, 184, 0, 124, 153, 0, 14, 28, 42, 27, 16, 47, 182, 1, 0]
abbrev dktX9_interval_1 : List UInt8 := dkwX9_interval_1 ++ dktX9_interval_2
def dkwX9_interval_0 : List UInt8 := [42, 3, 181, 0, 49, 42, 27, 182, 1, 46, 153, 0, 39, 28, 3, 42, 27, 7, 182, 1, 0, 4, 100]
abbrev dktX9_interval_0 : List UInt8 := dkwX9_interval_0 ++ dktX9_interval_1
theorem dksX9_interval_0 : cX9_interval.data.toList.drop 0 = dktX9_interval_0 := by decide +kernel
theorem dksX9_interval_1 : cX9_interval.data.toList.drop 23 = dktX9_interval_1 := dk_seg dksX9_interval_0 23 rfl rfl
theorem dksX9_interval_2 : cX9_interval.data.toList.drop 46 = dktX9_interval_2 := dk_seg dksX9_interval_1 23 rfl rfl
theorem dksX9_interval_3 : cX9_interval.data.toList.drop 70 = dktX9_interval_3 := dk_seg dksX9_interval_2 24 rfl rfl
theorem dksX9_interval_4 : cX9_interval.data.toList.drop 94 = dktX9_interval_4 := dk_seg dksX9_interval_3 24 rfl rfl
theorem dX9_interval_0 : decode cX9_interval 0 = .ok (.aload_n 0, 1) := dk_42 (dk_at dksX9_interval_0 0 rfl rfl)
theorem dX9_interval_1 : decode cX9_interval 1 = .ok (.iconst 0, 1) := dk_3 (dk_at dksX9_interval_0 1 rfl rfl)
theorem dX9_interval_2 : decode cX9_interval 2 = .ok (.putfield 49, 3) := dk_181 0 49 (dk_at dksX9_interval_0 2 rfl rfl)
theorem dX9_interval_5 : decode cX9_interval 5 = .ok (.aload_n 0, 1) := dk_42 (dk_at dksX9_interval_0 5 rfl rfl)
theorem dX9_interval_6 : decode cX9_interval 6 = .ok (.iload_n 1, 1) := dk_27 (dk_at dksX9_interval_0 6 rfl rfl)
theorem dX9_interval_7 : decode cX9_interval 7 = .ok (.invokevirtual 302, 3) := dk_182 1 46 (dk_at dksX9_interval_0 7 rfl rfl)
theorem dX9_interval_10 : decode cX9_interval 10 = .ok (.ifCond .eq 39, 3) := dk_153 0 39 (dk_at dksX9_interval_0 10 rfl rfl)
theorem dX9_interval_13 : decode cX9_interval 13 = .ok (.iload_n 2, 1) := dk_28 (dk_at dksX9_interval_0 13 rfl rfl)
theorem dX9_interval_14 : decode cX9_interval 14 = .ok (.iconst 0, 1) := dk_3 (dk_at dksX9_interval_0 14 rfl rfl)
theorem dX9_interval_15 : decode cX9_interval 15 = .ok (.aload_n 0, 1) := dk_42 (dk_at dksX9_interval_0 15 rfl rfl)
theorem dX9_interval_16 : decode cX9_interval 16 = .ok (.iload_n 1, 1) := dk_27 (dk_at dksX9_interval_0 16 rfl rfl)
theorem dX9_interval_17 : decode cX9_interval 17 = .ok (.iconst 4, 1) := dk_7 (dk_at dksX9_interval_0 17 rfl rfl)
theorem dX9_interval_18 : decode cX9_interval 18 = .ok (.invokevirtual 256, 3) := dk_182 1 0 (dk_at dksX9_interval_0 18 rfl rfl)
theorem dX9_interval_21 : decode cX9_interval 21 = .ok (.iconst 1, 1) := dk_4 (dk_at dksX9_interval_0 21 rfl rfl)
theorem dX9_interval_22 : decode cX9_interval 22 = .ok (.isub, 1) := dk_100 (dk_at dksX9_interval_0 22 rfl rfl)
theorem dX9_interval_23 : decode cX9_interval 23 = .ok (.invokestatic 124, 3) := dk_184 0 124 (dk_at dksX9_interval_1 0 rfl rfl)
theorem dX9_interval_26 : decode cX9_interval 26 = .ok (.ifCond .eq 23, 3) := dk_153 0 23 (dk_at dksX9_interval_1 3 rfl rfl)
theorem dX9_interval_29 : decode cX9_interval 29 = .ok (.iload_n 3, 1) := dk_29 (dk_at dksX9_interval_1 6 rfl rfl)
theorem dX9_interval_30 : decode cX9_interval 30 = .ok (.iconst 0, 1) := dk_3 (dk_at dksX9_interval_1 7 rfl rfl)
theorem dX9_interval_31 : decode cX9_interval 31 = .ok (.iconst 3, 1) := dk_6 (dk_at dksX9_interval_1 8 rfl rfl)
theorem dX9_interval_32 : decode cX9_interval 32 = .ok (.invokestatic 124, 3) := dk_184 0 124 (dk_at dksX9_interval_1 9 rfl rfl)
theorem dX9_interval_35 : decode cX9_interval 35 = .ok (.ifCond .eq 14, 3) := dk_153 0 14 (dk_at dksX9_interval_1 12 rfl rfl)
theorem dX9_interval_38 : decode cX9_interval 38 = .ok (.iload_n 2, 1) := dk_28 (dk_at dksX9_interval_1 15 rfl rfl)
theorem dX9_interval_39 : decode cX9_interval 39 = .ok (.aload_n 0, 1) := dk_42 (dk_at dksX9_interval_1 16 rfl rfl)
theorem dX9_interval_40 : decode cX9_interval 40 = .ok (.iload_n 1, 1) := dk_27 (dk_at dksX9_interval_1 17 rfl rfl)
theorem dX9_interval_41 : decode cX9_interval 41 = .ok (.bipush 47, 2) := dk_16 47 (dk_at dksX9_interval_1 18 rfl rfl)
theorem dX9_interval_43 : decode cX9_interval 43 = .ok (.invokevirtual 256, 3) := dk_182 1 0 (dk_at dksX9_interval_1 20 rfl rfl)
theorem dX9_interval_46 : decode cX9_interval 46 = .ok (.if_icmp .lt 7, 3) := dk_161 0 7 (dk_at dksX9_interval_2 0 rfl rfl)
theorem dX9_interval_49 : decode cX9_interval 49 = .ok (.ldc_w 326, 3) := dk_19 1 70 (dk_at dksX9_interval_2 3 rfl rfl)
theorem dX9_interval_52 : decode cX9_interval 52 = .ok (.ireturn, 1) := dk_172 (dk_at dksX9_interval_2 6 rfl rfl)
theorem dX9_interval_53 : decode cX9_interval 53 = .ok (.iload_n 3, 1) := dk_29 (dk_at dksX9_interval_2 7 rfl rfl)
theorem dX9_interval_54 : decode cX9_interval 54 = .ok (.ifCond .ne 16, 3) := dk_154 0 16 (dk_at dksX9_interval_2 8 rfl rfl)
theorem dX9_interval_57 : decode cX9_interval 57 = .ok (.aload_n 0, 1) := dk_42 (dk_at dksX9_interval_2 11 rfl rfl)
theorem dX9_interval_58 : decode cX9_interval 58 = .ok (.iload_n 1, 1) := dk_27 (dk_at dksX9_interval_2 12 rfl rfl)
theorem dX9_interval_59 : decode cX9_interval 59 = .ok (.iconst 5, 1) := dk_8 (dk_at dksX9_interval_2 13 rfl rfl)
theorem dX9_interval_60 : decode cX9_interval 60 = .ok (.invokevirtual 256, 3) := dk_182 1 0 (dk_at dksX9_interval_2 14 rfl rfl)
theorem dX9_interval_63 : decode cX9_interval 63 = .ok (.iconst 4, 1) := dk_7 (dk_at dksX9_interval_2 17 rfl rfl)
theorem dX9_interval_64 : decode cX9_interval 64 = .ok (.idiv, 1) := dk_108 (dk_at dksX9_interval_2 18 rfl rfl)
theorem dX9_interval_65 : decode cX9_interval 65 = .ok (.iload_n 2, 1) := dk_28 (dk_at dksX9_interval_2 19 rfl rfl)
theorem dX9_interval_66 : decode cX9_interval 66 = .ok (.iadd, 1) := dk_96 (dk_at dksX9_interval_2 20 rfl rfl)
theorem dX9_interval_67 : decode cX9_interval 67 = .ok (.goto 46, 3) := dk_167 0 46 (dk_at dksX9_interval_2 21 rfl rfl)
theorem dX9_interval_70 : decode cX9_interval 70 = .ok (.iload_n 3, 1) := dk_29 (dk_at dksX9_interval_3 0 rfl rfl)
theorem dX9_interval_71 : decode cX9_interval 71 = .ok (.iconst 1, 1) := dk_4 (dk_at dksX9_interval_3 1 rfl rfl)
theorem dX9_interval_72 : decode cX9_interval 72 = .ok (.if_icmp .ne 15, 3) := dk_160 0 15 (dk_at dksX9_interval_3 2 rfl rfl)
theorem dX9_interval_75 : decode cX9_interval 75 = .ok (.aload_n 0, 1) := dk_42 (dk_at dksX9_interval_3 5 rfl rfl)
theorem dX9_interval_76 : decode cX9_interval 76 = .ok (.iload_n 1, 1) := dk_27 (dk_at dksX9_interval_3 6 rfl rfl)
theorem dX9_interval_77 : decode cX9_interval 77 = .ok (.bipush 17, 2) := dk_16 17 (dk_at dksX9_interval_3 7 rfl rfl)
theorem dX9_interval_79 : decode cX9_interval 79 = .ok (.iload_n 2, 1) := dk_28 (dk_at dksX9_interval_3 9 rfl rfl)
theorem dX9_interval_80 : decode cX9_interval 80 = .ok (.iadd, 1) := dk_96 (dk_at dksX9_interval_3 10 rfl rfl)
theorem dX9_interval_81 : decode cX9_interval 81 = .ok (.invokevirtual 256, 3) := dk_182 1 0 (dk_at dksX9_interval_3 11 rfl rfl)
theorem dX9_interval_84 : decode cX9_interval 84 = .ok (.goto 29, 3) := dk_167 0 29 (dk_at dksX9_interval_3 14 rfl rfl)
theorem dX9_interval_87 : decode cX9_interval 87 = .ok (.iload_n 3, 1) := dk_29 (dk_at dksX9_interval_3 17 rfl rfl)
theorem dX9_interval_88 : decode cX9_interval 88 = .ok (.iconst 2, 1) := dk_5 (dk_at dksX9_interval_3 18 rfl rfl)
theorem dX9_interval_89 : decode cX9_interval 89 = .ok (.if_icmp .ne 15, 3) := dk_160 0 15 (dk_at dksX9_interval_3 19 rfl rfl)
theorem dX9_interval_92 : decode cX9_interval 92 = .ok (.aload_n 0, 1) := dk_42 (dk_at dksX9_interval_3 22 rfl rfl)
theorem dX9_interval_93 : decode cX9_interval 93 = .ok (.iload_n 1, 1) := dk_27 (dk_at dksX9_interval_3 23 rfl rfl)
theorem dX9_interval_94 : decode cX9_interval 94 = .ok (.bipush 27, 2) := dk_16 27 (dk_at dksX9_interval_4 0 rfl rfl)
theorem dX9_interval_96 : decode cX9_interval 96 = .ok (.iload_n 2, 1) := dk_28 (dk_at dksX9_interval_4 2 rfl rfl)
theorem dX9_interval_97 : decode cX9_interval 97 = .ok (.iadd, 1) := dk_96 (dk_at dksX9_interval_4 3 rfl rfl)
theorem dX9_interval_98 : decode cX9_interval 98 = .ok (.invokevirtual 256, 3) := dk_182 1 0 (dk_at dksX9_interval_4 4 rfl rfl)
theorem dX9_interval_101 : decode cX9_interval 101 = .ok (.goto 12, 3) := dk_167 0 12 (dk_at dksX9_interval_4 7 rfl rfl)
theorem dX9_interval_104 : decode cX9_interval 104 = .ok (.aload_n 0, 1) := dk_42 (dk_at dksX9_interval_4 10 rfl rfl)
theorem dX9_interval_105 : decode cX9_interval 105 = .ok (.iload_n 1, 1) := dk_27 (dk_at dksX9_interval_4 11 rfl rfl)
theorem dX9_interval_106 : decode cX9_interval 106 = .ok (.bipush 37, 2) := dk_16 37 (dk_at dksX9_interval_4 12 rfl rfl)
theorem dX9_interval_108 : decode cX9_interval 108 = .ok (.iload_n 2, 1) := dk_28 (dk_at dksX9_interval_4 14 rfl rfl)
theorem dX9_interval_109 : decode cX9_interval 109 = .ok (.iadd, 1) := dk_96 (dk_at dksX9_interval_4 15 rfl rfl)
theorem dX9_interval_110 : decode cX9_interval 110 = .ok (.invokevirtual 256, 3) := dk_182 1 0 (dk_at dksX9_interval_4 16 rfl rfl)
theorem dX9_interval_113 : decode cX9_interval 113 = .ok (.ireturn, 1) := dk_172 (dk_at dksX9_interval_4 19 rfl rfl)
abbrev cX9_taken : ByteArray := prog_17_method_95_code
def yX9_taken : MethodName := ⟨RX9, "taken", "(I)I"⟩
def dkwX9_taken_1 : List UInt8 := [19, 1, 70, 172]
abbrev dktX9_taken_1 : List UInt8 := dkwX9_taken_1 ++ []
def dkwX9_taken_0 : List UInt8 := [42, 3, 181, 0, 49, 42, 27, 182, 1, 46, 153, 0, 13, 42, 27, 16, 10, 182, 1, 0, 167, 0, 6]
abbrev dktX9_taken_0 : List UInt8 := dkwX9_taken_0 ++ dktX9_taken_1
theorem dksX9_taken_0 : cX9_taken.data.toList.drop 0 = dktX9_taken_0 := by decide +kernel
theorem dksX9_taken_1 : cX9_taken.data.toList.drop 23 = dktX9_taken_1 := dk_seg dksX9_taken_0 23 rfl rfl
theorem dX9_taken_0 : decode cX9_taken 0 = .ok (.aload_n 0, 1) := dk_42 (dk_at dksX9_taken_0 0 rfl rfl)
theorem dX9_taken_1 : decode cX9_taken 1 = .ok (.iconst 0, 1) := dk_3 (dk_at dksX9_taken_0 1 rfl rfl)
theorem dX9_taken_2 : decode cX9_taken 2 = .ok (.putfield 49, 3) := dk_181 0 49 (dk_at dksX9_taken_0 2 rfl rfl)
theorem dX9_taken_5 : decode cX9_taken 5 = .ok (.aload_n 0, 1) := dk_42 (dk_at dksX9_taken_0 5 rfl rfl)
theorem dX9_taken_6 : decode cX9_taken 6 = .ok (.iload_n 1, 1) := dk_27 (dk_at dksX9_taken_0 6 rfl rfl)
theorem dX9_taken_7 : decode cX9_taken 7 = .ok (.invokevirtual 302, 3) := dk_182 1 46 (dk_at dksX9_taken_0 7 rfl rfl)
theorem dX9_taken_10 : decode cX9_taken 10 = .ok (.ifCond .eq 13, 3) := dk_153 0 13 (dk_at dksX9_taken_0 10 rfl rfl)
theorem dX9_taken_13 : decode cX9_taken 13 = .ok (.aload_n 0, 1) := dk_42 (dk_at dksX9_taken_0 13 rfl rfl)
theorem dX9_taken_14 : decode cX9_taken 14 = .ok (.iload_n 1, 1) := dk_27 (dk_at dksX9_taken_0 14 rfl rfl)
theorem dX9_taken_15 : decode cX9_taken 15 = .ok (.bipush 10, 2) := dk_16 10 (dk_at dksX9_taken_0 15 rfl rfl)
theorem dX9_taken_17 : decode cX9_taken 17 = .ok (.invokevirtual 256, 3) := dk_182 1 0 (dk_at dksX9_taken_0 17 rfl rfl)
theorem dX9_taken_20 : decode cX9_taken 20 = .ok (.goto 6, 3) := dk_167 0 6 (dk_at dksX9_taken_0 20 rfl rfl)
theorem dX9_taken_23 : decode cX9_taken 23 = .ok (.ldc_w 326, 3) := dk_19 1 70 (dk_at dksX9_taken_1 0 rfl rfl)
theorem dX9_taken_26 : decode cX9_taken 26 = .ok (.ireturn, 1) := dk_172 (dk_at dksX9_taken_1 3 rfl rfl)
abbrev cX9_last : ByteArray := prog_17_method_96_code
def yX9_last : MethodName := ⟨RX9, "last", "(I)I"⟩
def dkwX9_last_1 : List UInt8 := [42, 27, 16, 12, 182, 1, 0, 167, 0, 6, 19, 1, 70, 172]
abbrev dktX9_last_1 : List UInt8 := dkwX9_last_1 ++ []
def dkwX9_last_0 : List UInt8 := [42, 3, 181, 0, 49, 42, 27, 182, 1, 46, 153, 0, 24, 42, 27, 16, 11, 182, 1, 0, 4, 160, 0, 13]
abbrev dktX9_last_0 : List UInt8 := dkwX9_last_0 ++ dktX9_last_1
theorem dksX9_last_0 : cX9_last.data.toList.drop 0 = dktX9_last_0 := by decide +kernel
theorem dksX9_last_1 : cX9_last.data.toList.drop 24 = dktX9_last_1 := dk_seg dksX9_last_0 24 rfl rfl
theorem dX9_last_0 : decode cX9_last 0 = .ok (.aload_n 0, 1) := dk_42 (dk_at dksX9_last_0 0 rfl rfl)
theorem dX9_last_1 : decode cX9_last 1 = .ok (.iconst 0, 1) := dk_3 (dk_at dksX9_last_0 1 rfl rfl)
theorem dX9_last_2 : decode cX9_last 2 = .ok (.putfield 49, 3) := dk_181 0 49 (dk_at dksX9_last_0 2 rfl rfl)
theorem dX9_last_5 : decode cX9_last 5 = .ok (.aload_n 0, 1) := dk_42 (dk_at dksX9_last_0 5 rfl rfl)
theorem dX9_last_6 : decode cX9_last 6 = .ok (.iload_n 1, 1) := dk_27 (dk_at dksX9_last_0 6 rfl rfl)
theorem dX9_last_7 : decode cX9_last 7 = .ok (.invokevirtual 302, 3) := dk_182 1 46 (dk_at dksX9_last_0 7 rfl rfl)
theorem dX9_last_10 : decode cX9_last 10 = .ok (.ifCond .eq 24, 3) := dk_153 0 24 (dk_at dksX9_last_0 10 rfl rfl)
theorem dX9_last_13 : decode cX9_last 13 = .ok (.aload_n 0, 1) := dk_42 (dk_at dksX9_last_0 13 rfl rfl)
theorem dX9_last_14 : decode cX9_last 14 = .ok (.iload_n 1, 1) := dk_27 (dk_at dksX9_last_0 14 rfl rfl)
theorem dX9_last_15 : decode cX9_last 15 = .ok (.bipush 11, 2) := dk_16 11 (dk_at dksX9_last_0 15 rfl rfl)
theorem dX9_last_17 : decode cX9_last 17 = .ok (.invokevirtual 256, 3) := dk_182 1 0 (dk_at dksX9_last_0 17 rfl rfl)
theorem dX9_last_20 : decode cX9_last 20 = .ok (.iconst 1, 1) := dk_4 (dk_at dksX9_last_0 20 rfl rfl)
theorem dX9_last_21 : decode cX9_last 21 = .ok (.if_icmp .ne 13, 3) := dk_160 0 13 (dk_at dksX9_last_0 21 rfl rfl)
theorem dX9_last_24 : decode cX9_last 24 = .ok (.aload_n 0, 1) := dk_42 (dk_at dksX9_last_1 0 rfl rfl)
theorem dX9_last_25 : decode cX9_last 25 = .ok (.iload_n 1, 1) := dk_27 (dk_at dksX9_last_1 1 rfl rfl)
theorem dX9_last_26 : decode cX9_last 26 = .ok (.bipush 12, 2) := dk_16 12 (dk_at dksX9_last_1 2 rfl rfl)
theorem dX9_last_28 : decode cX9_last 28 = .ok (.invokevirtual 256, 3) := dk_182 1 0 (dk_at dksX9_last_1 4 rfl rfl)
theorem dX9_last_31 : decode cX9_last 31 = .ok (.goto 6, 3) := dk_167 0 6 (dk_at dksX9_last_1 7 rfl rfl)
theorem dX9_last_34 : decode cX9_last 34 = .ok (.ldc_w 326, 3) := dk_19 1 70 (dk_at dksX9_last_1 10 rfl rfl)
theorem dX9_last_37 : decode cX9_last 37 = .ok (.ireturn, 1) := dk_172 (dk_at dksX9_last_1 13 rfl rfl)
abbrev cX9_booked : ByteArray := prog_17_method_97_code
def yX9_booked : MethodName := ⟨RX9, "booked", "(II)I"⟩
def dkwX9_booked_2 : List UInt8 := [19, 1, 70, 172]
abbrev dktX9_booked_2 : List UInt8 := dkwX9_booked_2 ++ []
def dkwX9_booked_1 : List UInt8 := [184, 0, 124, 153, 0, 19, 42, 17, 7, 76, 8, 27, 104, 96, 28, 96, 182, 0, 174, 167, 0, 6]
abbrev dktX9_booked_1 : List UInt8 := dkwX9_booked_1 ++ dktX9_booked_2
def dkwX9_booked_0 : List UInt8 := [42, 3, 181, 0, 49, 27, 155, 0, 39, 27, 42, 17, 7, 75, 182, 0, 174, 162, 0, 28, 28, 3, 7]
abbrev dktX9_booked_0 : List UInt8 := dkwX9_booked_0 ++ dktX9_booked_1
theorem dksX9_booked_0 : cX9_booked.data.toList.drop 0 = dktX9_booked_0 := by decide +kernel
theorem dksX9_booked_1 : cX9_booked.data.toList.drop 23 = dktX9_booked_1 := dk_seg dksX9_booked_0 23 rfl rfl
theorem dksX9_booked_2 : cX9_booked.data.toList.drop 45 = dktX9_booked_2 := dk_seg dksX9_booked_1 22 rfl rfl
theorem dX9_booked_0 : decode cX9_booked 0 = .ok (.aload_n 0, 1) := dk_42 (dk_at dksX9_booked_0 0 rfl rfl)
theorem dX9_booked_1 : decode cX9_booked 1 = .ok (.iconst 0, 1) := dk_3 (dk_at dksX9_booked_0 1 rfl rfl)
theorem dX9_booked_2 : decode cX9_booked 2 = .ok (.putfield 49, 3) := dk_181 0 49 (dk_at dksX9_booked_0 2 rfl rfl)
theorem dX9_booked_5 : decode cX9_booked 5 = .ok (.iload_n 1, 1) := dk_27 (dk_at dksX9_booked_0 5 rfl rfl)
theorem dX9_booked_6 : decode cX9_booked 6 = .ok (.ifCond .lt 39, 3) := dk_155 0 39 (dk_at dksX9_booked_0 6 rfl rfl)
theorem dX9_booked_9 : decode cX9_booked 9 = .ok (.iload_n 1, 1) := dk_27 (dk_at dksX9_booked_0 9 rfl rfl)
theorem dX9_booked_10 : decode cX9_booked 10 = .ok (.aload_n 0, 1) := dk_42 (dk_at dksX9_booked_0 10 rfl rfl)
theorem dX9_booked_11 : decode cX9_booked 11 = .ok (.sipush 1867, 3) := dk_17 7 75 (dk_at dksX9_booked_0 11 rfl rfl)
theorem dX9_booked_14 : decode cX9_booked 14 = .ok (.invokevirtual 174, 3) := dk_182 0 174 (dk_at dksX9_booked_0 14 rfl rfl)
theorem dX9_booked_17 : decode cX9_booked 17 = .ok (.if_icmp .ge 28, 3) := dk_162 0 28 (dk_at dksX9_booked_0 17 rfl rfl)
theorem dX9_booked_20 : decode cX9_booked 20 = .ok (.iload_n 2, 1) := dk_28 (dk_at dksX9_booked_0 20 rfl rfl)
theorem dX9_booked_21 : decode cX9_booked 21 = .ok (.iconst 0, 1) := dk_3 (dk_at dksX9_booked_0 21 rfl rfl)
theorem dX9_booked_22 : decode cX9_booked 22 = .ok (.iconst 4, 1) := dk_7 (dk_at dksX9_booked_0 22 rfl rfl)
theorem dX9_booked_23 : decode cX9_booked 23 = .ok (.invokestatic 124, 3) := dk_184 0 124 (dk_at dksX9_booked_1 0 rfl rfl)
theorem dX9_booked_26 : decode cX9_booked 26 = .ok (.ifCond .eq 19, 3) := dk_153 0 19 (dk_at dksX9_booked_1 3 rfl rfl)
theorem dX9_booked_29 : decode cX9_booked 29 = .ok (.aload_n 0, 1) := dk_42 (dk_at dksX9_booked_1 6 rfl rfl)
theorem dX9_booked_30 : decode cX9_booked 30 = .ok (.sipush 1868, 3) := dk_17 7 76 (dk_at dksX9_booked_1 7 rfl rfl)
theorem dX9_booked_33 : decode cX9_booked 33 = .ok (.iconst 5, 1) := dk_8 (dk_at dksX9_booked_1 10 rfl rfl)
theorem dX9_booked_34 : decode cX9_booked 34 = .ok (.iload_n 1, 1) := dk_27 (dk_at dksX9_booked_1 11 rfl rfl)
theorem dX9_booked_35 : decode cX9_booked 35 = .ok (.imul, 1) := dk_104 (dk_at dksX9_booked_1 12 rfl rfl)
theorem dX9_booked_36 : decode cX9_booked 36 = .ok (.iadd, 1) := dk_96 (dk_at dksX9_booked_1 13 rfl rfl)
theorem dX9_booked_37 : decode cX9_booked 37 = .ok (.iload_n 2, 1) := dk_28 (dk_at dksX9_booked_1 14 rfl rfl)
theorem dX9_booked_38 : decode cX9_booked 38 = .ok (.iadd, 1) := dk_96 (dk_at dksX9_booked_1 15 rfl rfl)
theorem dX9_booked_39 : decode cX9_booked 39 = .ok (.invokevirtual 174, 3) := dk_182 0 174 (dk_at dksX9_booked_1 16 rfl rfl)
theorem dX9_booked_42 : decode cX9_booked 42 = .ok (.goto 6, 3) := dk_167 0 6 (dk_at dksX9_booked_1 19 rfl rfl)
theorem dX9_booked_45 : decode cX9_booked 45 = .ok (.ldc_w 326, 3) := dk_19 1 70 (dk_at dksX9_booked_2 0 rfl rfl)
theorem dX9_booked_48 : decode cX9_booked 48 = .ok (.ireturn, 1) := dk_172 (dk_at dksX9_booked_2 3 rfl rfl)
abbrev cX9_total : ByteArray := prog_17_method_98_code
def yX9_total : MethodName := ⟨RX9, "total", "(II)I"⟩
def dkwX9_total_1 : List UInt8 := [17, 8, 20, 7, 27, 104, 96, 28, 96, 182, 0, 174, 167, 0, 6, 19, 1, 70, 172]
abbrev dktX9_total_1 : List UInt8 := dkwX9_total_1 ++ []
def dkwX9_total_0 : List UInt8 := [42, 3, 181, 0, 49, 42, 27, 182, 1, 40, 153, 0, 28, 28, 3, 6, 184, 0, 124, 153, 0, 19, 42]
abbrev dktX9_total_0 : List UInt8 := dkwX9_total_0 ++ dktX9_total_1
theorem dksX9_total_0 : cX9_total.data.toList.drop 0 = dktX9_total_0 := by decide +kernel
theorem dksX9_total_1 : cX9_total.data.toList.drop 23 = dktX9_total_1 := dk_seg dksX9_total_0 23 rfl rfl
theorem dX9_total_0 : decode cX9_total 0 = .ok (.aload_n 0, 1) := dk_42 (dk_at dksX9_total_0 0 rfl rfl)
theorem dX9_total_1 : decode cX9_total 1 = .ok (.iconst 0, 1) := dk_3 (dk_at dksX9_total_0 1 rfl rfl)
theorem dX9_total_2 : decode cX9_total 2 = .ok (.putfield 49, 3) := dk_181 0 49 (dk_at dksX9_total_0 2 rfl rfl)
theorem dX9_total_5 : decode cX9_total 5 = .ok (.aload_n 0, 1) := dk_42 (dk_at dksX9_total_0 5 rfl rfl)
theorem dX9_total_6 : decode cX9_total 6 = .ok (.iload_n 1, 1) := dk_27 (dk_at dksX9_total_0 6 rfl rfl)
theorem dX9_total_7 : decode cX9_total 7 = .ok (.invokevirtual 296, 3) := dk_182 1 40 (dk_at dksX9_total_0 7 rfl rfl)
theorem dX9_total_10 : decode cX9_total 10 = .ok (.ifCond .eq 28, 3) := dk_153 0 28 (dk_at dksX9_total_0 10 rfl rfl)
theorem dX9_total_13 : decode cX9_total 13 = .ok (.iload_n 2, 1) := dk_28 (dk_at dksX9_total_0 13 rfl rfl)
theorem dX9_total_14 : decode cX9_total 14 = .ok (.iconst 0, 1) := dk_3 (dk_at dksX9_total_0 14 rfl rfl)
theorem dX9_total_15 : decode cX9_total 15 = .ok (.iconst 3, 1) := dk_6 (dk_at dksX9_total_0 15 rfl rfl)
theorem dX9_total_16 : decode cX9_total 16 = .ok (.invokestatic 124, 3) := dk_184 0 124 (dk_at dksX9_total_0 16 rfl rfl)
theorem dX9_total_19 : decode cX9_total 19 = .ok (.ifCond .eq 19, 3) := dk_153 0 19 (dk_at dksX9_total_0 19 rfl rfl)
theorem dX9_total_22 : decode cX9_total 22 = .ok (.aload_n 0, 1) := dk_42 (dk_at dksX9_total_0 22 rfl rfl)
theorem dX9_total_23 : decode cX9_total 23 = .ok (.sipush 2068, 3) := dk_17 8 20 (dk_at dksX9_total_1 0 rfl rfl)
theorem dX9_total_26 : decode cX9_total 26 = .ok (.iconst 4, 1) := dk_7 (dk_at dksX9_total_1 3 rfl rfl)
theorem dX9_total_27 : decode cX9_total 27 = .ok (.iload_n 1, 1) := dk_27 (dk_at dksX9_total_1 4 rfl rfl)
theorem dX9_total_28 : decode cX9_total 28 = .ok (.imul, 1) := dk_104 (dk_at dksX9_total_1 5 rfl rfl)
theorem dX9_total_29 : decode cX9_total 29 = .ok (.iadd, 1) := dk_96 (dk_at dksX9_total_1 6 rfl rfl)
theorem dX9_total_30 : decode cX9_total 30 = .ok (.iload_n 2, 1) := dk_28 (dk_at dksX9_total_1 7 rfl rfl)
theorem dX9_total_31 : decode cX9_total 31 = .ok (.iadd, 1) := dk_96 (dk_at dksX9_total_1 8 rfl rfl)
theorem dX9_total_32 : decode cX9_total 32 = .ok (.invokevirtual 174, 3) := dk_182 0 174 (dk_at dksX9_total_1 9 rfl rfl)
theorem dX9_total_35 : decode cX9_total 35 = .ok (.goto 6, 3) := dk_167 0 6 (dk_at dksX9_total_1 12 rfl rfl)
theorem dX9_total_38 : decode cX9_total 38 = .ok (.ldc_w 326, 3) := dk_19 1 70 (dk_at dksX9_total_1 15 rfl rfl)
theorem dX9_total_41 : decode cX9_total 41 = .ok (.ireturn, 1) := dk_172 (dk_at dksX9_total_1 18 rfl rfl)
abbrev cX9_by : ByteArray := prog_17_method_99_code
def yX9_by : MethodName := ⟨RX9, "by", "(IIIII)I"⟩
def dkwX9_by_3 : List UInt8 := [180, 0, 32, 5, 46, 182, 0, 227, 172]
abbrev dktX9_by_3 : List UInt8 := dkwX9_by_3 ++ []
def dkwX9_by_2 : List UInt8 := [19, 1, 70, 172, 42, 27, 28, 182, 0, 230, 42, 42, 21, 4, 29, 21, 5, 182, 0, 222, 29, 21, 5, 42]
abbrev dktX9_by_2 : List UInt8 := dkwX9_by_2 ++ dktX9_by_3
def dkwX9_by_1 : List UInt8 := [21, 4, 3, 5, 184, 0, 124, 153, 0, 16, 21, 5, 16, 10, 17, 3, 232, 184, 0, 124, 154, 0, 7]
abbrev dktX9_by_1 : List UInt8 := dkwX9_by_1 ++ dktX9_by_2
def dkwX9_by_0 : List UInt8 := [42, 3, 181, 0, 49, 42, 27, 28, 182, 1, 67, 153, 0, 35, 29, 3, 5, 184, 0, 124, 153, 0, 26]
abbrev dktX9_by_0 : List UInt8 := dkwX9_by_0 ++ dktX9_by_1
theorem dksX9_by_0 : cX9_by.data.toList.drop 0 = dktX9_by_0 := by decide +kernel
theorem dksX9_by_1 : cX9_by.data.toList.drop 23 = dktX9_by_1 := dk_seg dksX9_by_0 23 rfl rfl
theorem dksX9_by_2 : cX9_by.data.toList.drop 46 = dktX9_by_2 := dk_seg dksX9_by_1 23 rfl rfl
theorem dksX9_by_3 : cX9_by.data.toList.drop 70 = dktX9_by_3 := dk_seg dksX9_by_2 24 rfl rfl
theorem dX9_by_0 : decode cX9_by 0 = .ok (.aload_n 0, 1) := dk_42 (dk_at dksX9_by_0 0 rfl rfl)
theorem dX9_by_1 : decode cX9_by 1 = .ok (.iconst 0, 1) := dk_3 (dk_at dksX9_by_0 1 rfl rfl)
theorem dX9_by_2 : decode cX9_by 2 = .ok (.putfield 49, 3) := dk_181 0 49 (dk_at dksX9_by_0 2 rfl rfl)
theorem dX9_by_5 : decode cX9_by 5 = .ok (.aload_n 0, 1) := dk_42 (dk_at dksX9_by_0 5 rfl rfl)
theorem dX9_by_6 : decode cX9_by 6 = .ok (.iload_n 1, 1) := dk_27 (dk_at dksX9_by_0 6 rfl rfl)
theorem dX9_by_7 : decode cX9_by 7 = .ok (.iload_n 2, 1) := dk_28 (dk_at dksX9_by_0 7 rfl rfl)
theorem dX9_by_8 : decode cX9_by 8 = .ok (.invokevirtual 323, 3) := dk_182 1 67 (dk_at dksX9_by_0 8 rfl rfl)
theorem dX9_by_11 : decode cX9_by 11 = .ok (.ifCond .eq 35, 3) := dk_153 0 35 (dk_at dksX9_by_0 11 rfl rfl)
theorem dX9_by_14 : decode cX9_by 14 = .ok (.iload_n 3, 1) := dk_29 (dk_at dksX9_by_0 14 rfl rfl)
theorem dX9_by_15 : decode cX9_by 15 = .ok (.iconst 0, 1) := dk_3 (dk_at dksX9_by_0 15 rfl rfl)
theorem dX9_by_16 : decode cX9_by 16 = .ok (.iconst 2, 1) := dk_5 (dk_at dksX9_by_0 16 rfl rfl)
theorem dX9_by_17 : decode cX9_by 17 = .ok (.invokestatic 124, 3) := dk_184 0 124 (dk_at dksX9_by_0 17 rfl rfl)
theorem dX9_by_20 : decode cX9_by 20 = .ok (.ifCond .eq 26, 3) := dk_153 0 26 (dk_at dksX9_by_0 20 rfl rfl)
theorem dX9_by_23 : decode cX9_by 23 = .ok (.iload 4, 2) := dk_21 4 (dk_at dksX9_by_1 0 rfl rfl)
theorem dX9_by_25 : decode cX9_by 25 = .ok (.iconst 0, 1) := dk_3 (dk_at dksX9_by_1 2 rfl rfl)
theorem dX9_by_26 : decode cX9_by 26 = .ok (.iconst 2, 1) := dk_5 (dk_at dksX9_by_1 3 rfl rfl)
theorem dX9_by_27 : decode cX9_by 27 = .ok (.invokestatic 124, 3) := dk_184 0 124 (dk_at dksX9_by_1 4 rfl rfl)
theorem dX9_by_30 : decode cX9_by 30 = .ok (.ifCond .eq 16, 3) := dk_153 0 16 (dk_at dksX9_by_1 7 rfl rfl)
theorem dX9_by_33 : decode cX9_by 33 = .ok (.iload 5, 2) := dk_21 5 (dk_at dksX9_by_1 10 rfl rfl)
theorem dX9_by_35 : decode cX9_by 35 = .ok (.bipush 10, 2) := dk_16 10 (dk_at dksX9_by_1 12 rfl rfl)
theorem dX9_by_37 : decode cX9_by 37 = .ok (.sipush 1000, 3) := dk_17 3 232 (dk_at dksX9_by_1 14 rfl rfl)
theorem dX9_by_40 : decode cX9_by 40 = .ok (.invokestatic 124, 3) := dk_184 0 124 (dk_at dksX9_by_1 17 rfl rfl)
theorem dX9_by_43 : decode cX9_by 43 = .ok (.ifCond .ne 7, 3) := dk_154 0 7 (dk_at dksX9_by_1 20 rfl rfl)
theorem dX9_by_46 : decode cX9_by 46 = .ok (.ldc_w 326, 3) := dk_19 1 70 (dk_at dksX9_by_2 0 rfl rfl)
theorem dX9_by_49 : decode cX9_by 49 = .ok (.ireturn, 1) := dk_172 (dk_at dksX9_by_2 3 rfl rfl)
theorem dX9_by_50 : decode cX9_by 50 = .ok (.aload_n 0, 1) := dk_42 (dk_at dksX9_by_2 4 rfl rfl)
theorem dX9_by_51 : decode cX9_by 51 = .ok (.iload_n 1, 1) := dk_27 (dk_at dksX9_by_2 5 rfl rfl)
theorem dX9_by_52 : decode cX9_by 52 = .ok (.iload_n 2, 1) := dk_28 (dk_at dksX9_by_2 6 rfl rfl)
theorem dX9_by_53 : decode cX9_by 53 = .ok (.invokevirtual 230, 3) := dk_182 0 230 (dk_at dksX9_by_2 7 rfl rfl)
theorem dX9_by_56 : decode cX9_by 56 = .ok (.aload_n 0, 1) := dk_42 (dk_at dksX9_by_2 10 rfl rfl)
theorem dX9_by_57 : decode cX9_by 57 = .ok (.aload_n 0, 1) := dk_42 (dk_at dksX9_by_2 11 rfl rfl)
theorem dX9_by_58 : decode cX9_by 58 = .ok (.iload 4, 2) := dk_21 4 (dk_at dksX9_by_2 12 rfl rfl)
theorem dX9_by_60 : decode cX9_by 60 = .ok (.iload_n 3, 1) := dk_29 (dk_at dksX9_by_2 14 rfl rfl)
theorem dX9_by_61 : decode cX9_by 61 = .ok (.iload 5, 2) := dk_21 5 (dk_at dksX9_by_2 15 rfl rfl)
theorem dX9_by_63 : decode cX9_by 63 = .ok (.invokevirtual 222, 3) := dk_182 0 222 (dk_at dksX9_by_2 17 rfl rfl)
theorem dX9_by_66 : decode cX9_by 66 = .ok (.iload_n 3, 1) := dk_29 (dk_at dksX9_by_2 20 rfl rfl)
theorem dX9_by_67 : decode cX9_by 67 = .ok (.iload 5, 2) := dk_21 5 (dk_at dksX9_by_2 21 rfl rfl)
theorem dX9_by_69 : decode cX9_by 69 = .ok (.aload_n 0, 1) := dk_42 (dk_at dksX9_by_2 23 rfl rfl)
theorem dX9_by_70 : decode cX9_by 70 = .ok (.getfield 32, 3) := dk_180 0 32 (dk_at dksX9_by_3 0 rfl rfl)
theorem dX9_by_73 : decode cX9_by 73 = .ok (.iconst 2, 1) := dk_5 (dk_at dksX9_by_3 3 rfl rfl)
theorem dX9_by_74 : decode cX9_by 74 = .ok (.iaload, 1) := dk_46 (dk_at dksX9_by_3 4 rfl rfl)
theorem dX9_by_75 : decode cX9_by 75 = .ok (.invokevirtual 227, 3) := dk_182 0 227 (dk_at dksX9_by_3 5 rfl rfl)
theorem dX9_by_78 : decode cX9_by 78 = .ok (.ireturn, 1) := dk_172 (dk_at dksX9_by_3 8 rfl rfl)
abbrev cX9_bestMethod : ByteArray := prog_17_method_100_code
def yX9_bestMethod : MethodName := ⟨RX9, "bestMethod", "(II)I"⟩
def dkwX9_bestMethod_5 : List UInt8 := [167, 0, 5, 21, 4, 54, 4, 132, 5, 1, 167, 255, 177, 29, 172]
abbrev dktX9_bestMethod_5 : List UInt8 := dkwX9_bestMethod_5 ++ []
def dkwX9_bestMethod_4 : List UInt8 := [164, 0, 8, 21, 5, 167, 0, 4, 29, 62, 21, 5, 153, 0, 10, 21, 6, 21, 4, 164, 0, 8, 21, 6]
abbrev dktX9_bestMethod_4 : List UInt8 := dkwX9_bestMethod_4 ++ dktX9_bestMethod_5
def dkwX9_bestMethod_3 : List UInt8 := [182, 0, 222, 42, 180, 0, 32, 5, 46, 182, 0, 249, 54, 6, 21, 5, 153, 0, 10, 21, 6, 21, 4]
abbrev dktX9_bestMethod_3 : List UInt8 := dkwX9_bestMethod_3 ++ dktX9_bestMethod_4
def dkwX9_bestMethod_2 : List UInt8 := [54, 5, 21, 5, 6, 162, 0, 79, 42, 42, 21, 5, 42, 180, 0, 32, 3, 46, 42, 180, 0, 32, 4, 46]
abbrev dktX9_bestMethod_2 : List UInt8 := dkwX9_bestMethod_2 ++ dktX9_bestMethod_3
def dkwX9_bestMethod_1 : List UInt8 := [172, 28, 42, 182, 0, 233, 164, 0, 6, 16, 254, 172, 3, 62, 3, 54, 4, 42, 27, 28, 182, 0, 230, 3]
abbrev dktX9_bestMethod_1 : List UInt8 := dkwX9_bestMethod_1 ++ dktX9_bestMethod_2
def dkwX9_bestMethod_0 : List UInt8 := [42, 3, 181, 0, 49, 42, 27, 182, 1, 40, 153, 0, 13, 28, 3, 16, 15, 184, 0, 124, 154, 0, 5, 2]
abbrev dktX9_bestMethod_0 : List UInt8 := dkwX9_bestMethod_0 ++ dktX9_bestMethod_1
theorem dksX9_bestMethod_0 : cX9_bestMethod.data.toList.drop 0 = dktX9_bestMethod_0 := by decide +kernel
theorem dksX9_bestMethod_1 : cX9_bestMethod.data.toList.drop 24 = dktX9_bestMethod_1 := dk_seg dksX9_bestMethod_0 24 rfl rfl
theorem dksX9_bestMethod_2 : cX9_bestMethod.data.toList.drop 48 = dktX9_bestMethod_2 := dk_seg dksX9_bestMethod_1 24 rfl rfl
theorem dksX9_bestMethod_3 : cX9_bestMethod.data.toList.drop 72 = dktX9_bestMethod_3 := dk_seg dksX9_bestMethod_2 24 rfl rfl
theorem dksX9_bestMethod_4 : cX9_bestMethod.data.toList.drop 95 = dktX9_bestMethod_4 := dk_seg dksX9_bestMethod_3 23 rfl rfl
theorem dksX9_bestMethod_5 : cX9_bestMethod.data.toList.drop 119 = dktX9_bestMethod_5 := dk_seg dksX9_bestMethod_4 24 rfl rfl
theorem dX9_bestMethod_0 : decode cX9_bestMethod 0 = .ok (.aload_n 0, 1) := dk_42 (dk_at dksX9_bestMethod_0 0 rfl rfl)
theorem dX9_bestMethod_1 : decode cX9_bestMethod 1 = .ok (.iconst 0, 1) := dk_3 (dk_at dksX9_bestMethod_0 1 rfl rfl)
theorem dX9_bestMethod_2 : decode cX9_bestMethod 2 = .ok (.putfield 49, 3) := dk_181 0 49 (dk_at dksX9_bestMethod_0 2 rfl rfl)
theorem dX9_bestMethod_5 : decode cX9_bestMethod 5 = .ok (.aload_n 0, 1) := dk_42 (dk_at dksX9_bestMethod_0 5 rfl rfl)
theorem dX9_bestMethod_6 : decode cX9_bestMethod 6 = .ok (.iload_n 1, 1) := dk_27 (dk_at dksX9_bestMethod_0 6 rfl rfl)
theorem dX9_bestMethod_7 : decode cX9_bestMethod 7 = .ok (.invokevirtual 296, 3) := dk_182 1 40 (dk_at dksX9_bestMethod_0 7 rfl rfl)
theorem dX9_bestMethod_10 : decode cX9_bestMethod 10 = .ok (.ifCond .eq 13, 3) := dk_153 0 13 (dk_at dksX9_bestMethod_0 10 rfl rfl)
theorem dX9_bestMethod_13 : decode cX9_bestMethod 13 = .ok (.iload_n 2, 1) := dk_28 (dk_at dksX9_bestMethod_0 13 rfl rfl)
theorem dX9_bestMethod_14 : decode cX9_bestMethod 14 = .ok (.iconst 0, 1) := dk_3 (dk_at dksX9_bestMethod_0 14 rfl rfl)
theorem dX9_bestMethod_15 : decode cX9_bestMethod 15 = .ok (.bipush 15, 2) := dk_16 15 (dk_at dksX9_bestMethod_0 15 rfl rfl)
theorem dX9_bestMethod_17 : decode cX9_bestMethod 17 = .ok (.invokestatic 124, 3) := dk_184 0 124 (dk_at dksX9_bestMethod_0 17 rfl rfl)
theorem dX9_bestMethod_20 : decode cX9_bestMethod 20 = .ok (.ifCond .ne 5, 3) := dk_154 0 5 (dk_at dksX9_bestMethod_0 20 rfl rfl)
theorem dX9_bestMethod_23 : decode cX9_bestMethod 23 = .ok (.iconst (-1), 1) := dk_2 (dk_at dksX9_bestMethod_0 23 rfl rfl)
theorem dX9_bestMethod_24 : decode cX9_bestMethod 24 = .ok (.ireturn, 1) := dk_172 (dk_at dksX9_bestMethod_1 0 rfl rfl)
theorem dX9_bestMethod_25 : decode cX9_bestMethod 25 = .ok (.iload_n 2, 1) := dk_28 (dk_at dksX9_bestMethod_1 1 rfl rfl)
theorem dX9_bestMethod_26 : decode cX9_bestMethod 26 = .ok (.aload_n 0, 1) := dk_42 (dk_at dksX9_bestMethod_1 2 rfl rfl)
theorem dX9_bestMethod_27 : decode cX9_bestMethod 27 = .ok (.invokevirtual 233, 3) := dk_182 0 233 (dk_at dksX9_bestMethod_1 3 rfl rfl)
theorem dX9_bestMethod_30 : decode cX9_bestMethod 30 = .ok (.if_icmp .le 6, 3) := dk_164 0 6 (dk_at dksX9_bestMethod_1 6 rfl rfl)
theorem dX9_bestMethod_33 : decode cX9_bestMethod 33 = .ok (.bipush (-2), 2) := dk_16 254 (dk_at dksX9_bestMethod_1 9 rfl rfl)
theorem dX9_bestMethod_35 : decode cX9_bestMethod 35 = .ok (.ireturn, 1) := dk_172 (dk_at dksX9_bestMethod_1 11 rfl rfl)
theorem dX9_bestMethod_36 : decode cX9_bestMethod 36 = .ok (.iconst 0, 1) := dk_3 (dk_at dksX9_bestMethod_1 12 rfl rfl)
theorem dX9_bestMethod_37 : decode cX9_bestMethod 37 = .ok (.istore_n 3, 1) := dk_62 (dk_at dksX9_bestMethod_1 13 rfl rfl)
theorem dX9_bestMethod_38 : decode cX9_bestMethod 38 = .ok (.iconst 0, 1) := dk_3 (dk_at dksX9_bestMethod_1 14 rfl rfl)
theorem dX9_bestMethod_39 : decode cX9_bestMethod 39 = .ok (.istore 4, 2) := dk_54 4 (dk_at dksX9_bestMethod_1 15 rfl rfl)
theorem dX9_bestMethod_41 : decode cX9_bestMethod 41 = .ok (.aload_n 0, 1) := dk_42 (dk_at dksX9_bestMethod_1 17 rfl rfl)
theorem dX9_bestMethod_42 : decode cX9_bestMethod 42 = .ok (.iload_n 1, 1) := dk_27 (dk_at dksX9_bestMethod_1 18 rfl rfl)
theorem dX9_bestMethod_43 : decode cX9_bestMethod 43 = .ok (.iload_n 2, 1) := dk_28 (dk_at dksX9_bestMethod_1 19 rfl rfl)
theorem dX9_bestMethod_44 : decode cX9_bestMethod 44 = .ok (.invokevirtual 230, 3) := dk_182 0 230 (dk_at dksX9_bestMethod_1 20 rfl rfl)
theorem dX9_bestMethod_47 : decode cX9_bestMethod 47 = .ok (.iconst 0, 1) := dk_3 (dk_at dksX9_bestMethod_1 23 rfl rfl)
theorem dX9_bestMethod_48 : decode cX9_bestMethod 48 = .ok (.istore 5, 2) := dk_54 5 (dk_at dksX9_bestMethod_2 0 rfl rfl)
theorem dX9_bestMethod_50 : decode cX9_bestMethod 50 = .ok (.iload 5, 2) := dk_21 5 (dk_at dksX9_bestMethod_2 2 rfl rfl)
theorem dX9_bestMethod_52 : decode cX9_bestMethod 52 = .ok (.iconst 3, 1) := dk_6 (dk_at dksX9_bestMethod_2 4 rfl rfl)
theorem dX9_bestMethod_53 : decode cX9_bestMethod 53 = .ok (.if_icmp .ge 79, 3) := dk_162 0 79 (dk_at dksX9_bestMethod_2 5 rfl rfl)
theorem dX9_bestMethod_56 : decode cX9_bestMethod 56 = .ok (.aload_n 0, 1) := dk_42 (dk_at dksX9_bestMethod_2 8 rfl rfl)
theorem dX9_bestMethod_57 : decode cX9_bestMethod 57 = .ok (.aload_n 0, 1) := dk_42 (dk_at dksX9_bestMethod_2 9 rfl rfl)
theorem dX9_bestMethod_58 : decode cX9_bestMethod 58 = .ok (.iload 5, 2) := dk_21 5 (dk_at dksX9_bestMethod_2 10 rfl rfl)
theorem dX9_bestMethod_60 : decode cX9_bestMethod 60 = .ok (.aload_n 0, 1) := dk_42 (dk_at dksX9_bestMethod_2 12 rfl rfl)
theorem dX9_bestMethod_61 : decode cX9_bestMethod 61 = .ok (.getfield 32, 3) := dk_180 0 32 (dk_at dksX9_bestMethod_2 13 rfl rfl)
theorem dX9_bestMethod_64 : decode cX9_bestMethod 64 = .ok (.iconst 0, 1) := dk_3 (dk_at dksX9_bestMethod_2 16 rfl rfl)
theorem dX9_bestMethod_65 : decode cX9_bestMethod 65 = .ok (.iaload, 1) := dk_46 (dk_at dksX9_bestMethod_2 17 rfl rfl)
theorem dX9_bestMethod_66 : decode cX9_bestMethod 66 = .ok (.aload_n 0, 1) := dk_42 (dk_at dksX9_bestMethod_2 18 rfl rfl)
theorem dX9_bestMethod_67 : decode cX9_bestMethod 67 = .ok (.getfield 32, 3) := dk_180 0 32 (dk_at dksX9_bestMethod_2 19 rfl rfl)
theorem dX9_bestMethod_70 : decode cX9_bestMethod 70 = .ok (.iconst 1, 1) := dk_4 (dk_at dksX9_bestMethod_2 22 rfl rfl)
theorem dX9_bestMethod_71 : decode cX9_bestMethod 71 = .ok (.iaload, 1) := dk_46 (dk_at dksX9_bestMethod_2 23 rfl rfl)
theorem dX9_bestMethod_72 : decode cX9_bestMethod 72 = .ok (.invokevirtual 222, 3) := dk_182 0 222 (dk_at dksX9_bestMethod_3 0 rfl rfl)
theorem dX9_bestMethod_75 : decode cX9_bestMethod 75 = .ok (.aload_n 0, 1) := dk_42 (dk_at dksX9_bestMethod_3 3 rfl rfl)
theorem dX9_bestMethod_76 : decode cX9_bestMethod 76 = .ok (.getfield 32, 3) := dk_180 0 32 (dk_at dksX9_bestMethod_3 4 rfl rfl)
theorem dX9_bestMethod_79 : decode cX9_bestMethod 79 = .ok (.iconst 2, 1) := dk_5 (dk_at dksX9_bestMethod_3 7 rfl rfl)
theorem dX9_bestMethod_80 : decode cX9_bestMethod 80 = .ok (.iaload, 1) := dk_46 (dk_at dksX9_bestMethod_3 8 rfl rfl)
theorem dX9_bestMethod_81 : decode cX9_bestMethod 81 = .ok (.invokevirtual 249, 3) := dk_182 0 249 (dk_at dksX9_bestMethod_3 9 rfl rfl)
theorem dX9_bestMethod_84 : decode cX9_bestMethod 84 = .ok (.istore 6, 2) := dk_54 6 (dk_at dksX9_bestMethod_3 12 rfl rfl)
theorem dX9_bestMethod_86 : decode cX9_bestMethod 86 = .ok (.iload 5, 2) := dk_21 5 (dk_at dksX9_bestMethod_3 14 rfl rfl)
theorem dX9_bestMethod_88 : decode cX9_bestMethod 88 = .ok (.ifCond .eq 10, 3) := dk_153 0 10 (dk_at dksX9_bestMethod_3 16 rfl rfl)
theorem dX9_bestMethod_91 : decode cX9_bestMethod 91 = .ok (.iload 6, 2) := dk_21 6 (dk_at dksX9_bestMethod_3 19 rfl rfl)
theorem dX9_bestMethod_93 : decode cX9_bestMethod 93 = .ok (.iload 4, 2) := dk_21 4 (dk_at dksX9_bestMethod_3 21 rfl rfl)
theorem dX9_bestMethod_95 : decode cX9_bestMethod 95 = .ok (.if_icmp .le 8, 3) := dk_164 0 8 (dk_at dksX9_bestMethod_4 0 rfl rfl)
theorem dX9_bestMethod_98 : decode cX9_bestMethod 98 = .ok (.iload 5, 2) := dk_21 5 (dk_at dksX9_bestMethod_4 3 rfl rfl)
theorem dX9_bestMethod_100 : decode cX9_bestMethod 100 = .ok (.goto 4, 3) := dk_167 0 4 (dk_at dksX9_bestMethod_4 5 rfl rfl)
theorem dX9_bestMethod_103 : decode cX9_bestMethod 103 = .ok (.iload_n 3, 1) := dk_29 (dk_at dksX9_bestMethod_4 8 rfl rfl)
theorem dX9_bestMethod_104 : decode cX9_bestMethod 104 = .ok (.istore_n 3, 1) := dk_62 (dk_at dksX9_bestMethod_4 9 rfl rfl)
theorem dX9_bestMethod_105 : decode cX9_bestMethod 105 = .ok (.iload 5, 2) := dk_21 5 (dk_at dksX9_bestMethod_4 10 rfl rfl)
theorem dX9_bestMethod_107 : decode cX9_bestMethod 107 = .ok (.ifCond .eq 10, 3) := dk_153 0 10 (dk_at dksX9_bestMethod_4 12 rfl rfl)
theorem dX9_bestMethod_110 : decode cX9_bestMethod 110 = .ok (.iload 6, 2) := dk_21 6 (dk_at dksX9_bestMethod_4 15 rfl rfl)
theorem dX9_bestMethod_112 : decode cX9_bestMethod 112 = .ok (.iload 4, 2) := dk_21 4 (dk_at dksX9_bestMethod_4 17 rfl rfl)
theorem dX9_bestMethod_114 : decode cX9_bestMethod 114 = .ok (.if_icmp .le 8, 3) := dk_164 0 8 (dk_at dksX9_bestMethod_4 19 rfl rfl)
theorem dX9_bestMethod_117 : decode cX9_bestMethod 117 = .ok (.iload 6, 2) := dk_21 6 (dk_at dksX9_bestMethod_4 22 rfl rfl)
theorem dX9_bestMethod_119 : decode cX9_bestMethod 119 = .ok (.goto 5, 3) := dk_167 0 5 (dk_at dksX9_bestMethod_5 0 rfl rfl)
theorem dX9_bestMethod_122 : decode cX9_bestMethod 122 = .ok (.iload 4, 2) := dk_21 4 (dk_at dksX9_bestMethod_5 3 rfl rfl)
theorem dX9_bestMethod_124 : decode cX9_bestMethod 124 = .ok (.istore 4, 2) := dk_54 4 (dk_at dksX9_bestMethod_5 5 rfl rfl)
theorem dX9_bestMethod_126 : decode cX9_bestMethod 126 = .ok (.iinc 5 1, 3) := dk_132 5 1 (dk_at dksX9_bestMethod_5 7 rfl rfl)
theorem dX9_bestMethod_129 : decode cX9_bestMethod 129 = .ok (.goto (-79), 3) := dk_167 255 177 (dk_at dksX9_bestMethod_5 10 rfl rfl)
theorem dX9_bestMethod_132 : decode cX9_bestMethod 132 = .ok (.iload_n 3, 1) := dk_29 (dk_at dksX9_bestMethod_5 13 rfl rfl)
theorem dX9_bestMethod_133 : decode cX9_bestMethod 133 = .ok (.ireturn, 1) := dk_172 (dk_at dksX9_bestMethod_5 14 rfl rfl)
abbrev cX9_bestStep : ByteArray := prog_17_method_101_code
def yX9_bestStep : MethodName := ⟨RX9, "bestStep", "(II)I"⟩
def dkwX9_bestStep_5 : List UInt8 := [132, 5, 1, 167, 255, 186, 29, 172]
abbrev dktX9_bestStep_5 : List UInt8 := dkwX9_bestStep_5 ++ []
def dkwX9_bestStep_4 : List UInt8 := [54, 6, 29, 158, 0, 13, 21, 6, 21, 4, 163, 0, 6, 167, 0, 10, 21, 5, 62, 21, 6, 54, 4]
abbrev dktX9_bestStep_4 : List UInt8 := dkwX9_bestStep_4 ++ dktX9_bestStep_5
def dkwX9_bestStep_3 : List UInt8 := [3, 46, 21, 5, 182, 0, 222, 42, 180, 0, 32, 3, 46, 21, 5, 42, 180, 0, 32, 5, 46, 182, 0, 227]
abbrev dktX9_bestStep_3 : List UInt8 := dkwX9_bestStep_3 ++ dktX9_bestStep_4
def dkwX9_bestStep_2 : List UInt8 := [16, 10, 54, 5, 21, 5, 17, 3, 232, 163, 0, 68, 42, 42, 42, 27, 4, 182, 0, 115, 42, 180, 0, 32]
abbrev dktX9_bestStep_2 : List UInt8 := dkwX9_bestStep_2 ++ dktX9_bestStep_3
def dkwX9_bestStep_1 : List UInt8 := [172, 28, 42, 182, 0, 233, 164, 0, 6, 16, 254, 172, 3, 62, 3, 54, 4, 42, 27, 28, 182, 0, 230]
abbrev dktX9_bestStep_1 : List UInt8 := dkwX9_bestStep_1 ++ dktX9_bestStep_2
def dkwX9_bestStep_0 : List UInt8 := [42, 3, 181, 0, 49, 42, 27, 182, 1, 40, 153, 0, 13, 28, 3, 16, 15, 184, 0, 124, 154, 0, 5, 2]
abbrev dktX9_bestStep_0 : List UInt8 := dkwX9_bestStep_0 ++ dktX9_bestStep_1
theorem dksX9_bestStep_0 : cX9_bestStep.data.toList.drop 0 = dktX9_bestStep_0 := by decide +kernel
theorem dksX9_bestStep_1 : cX9_bestStep.data.toList.drop 24 = dktX9_bestStep_1 := dk_seg dksX9_bestStep_0 24 rfl rfl
theorem dksX9_bestStep_2 : cX9_bestStep.data.toList.drop 47 = dktX9_bestStep_2 := dk_seg dksX9_bestStep_1 23 rfl rfl
theorem dksX9_bestStep_3 : cX9_bestStep.data.toList.drop 71 = dktX9_bestStep_3 := dk_seg dksX9_bestStep_2 24 rfl rfl
theorem dksX9_bestStep_4 : cX9_bestStep.data.toList.drop 95 = dktX9_bestStep_4 := dk_seg dksX9_bestStep_3 24 rfl rfl
theorem dksX9_bestStep_5 : cX9_bestStep.data.toList.drop 118 = dktX9_bestStep_5 := dk_seg dksX9_bestStep_4 23 rfl rfl
theorem dX9_bestStep_0 : decode cX9_bestStep 0 = .ok (.aload_n 0, 1) := dk_42 (dk_at dksX9_bestStep_0 0 rfl rfl)
theorem dX9_bestStep_1 : decode cX9_bestStep 1 = .ok (.iconst 0, 1) := dk_3 (dk_at dksX9_bestStep_0 1 rfl rfl)
theorem dX9_bestStep_2 : decode cX9_bestStep 2 = .ok (.putfield 49, 3) := dk_181 0 49 (dk_at dksX9_bestStep_0 2 rfl rfl)
theorem dX9_bestStep_5 : decode cX9_bestStep 5 = .ok (.aload_n 0, 1) := dk_42 (dk_at dksX9_bestStep_0 5 rfl rfl)
theorem dX9_bestStep_6 : decode cX9_bestStep 6 = .ok (.iload_n 1, 1) := dk_27 (dk_at dksX9_bestStep_0 6 rfl rfl)
theorem dX9_bestStep_7 : decode cX9_bestStep 7 = .ok (.invokevirtual 296, 3) := dk_182 1 40 (dk_at dksX9_bestStep_0 7 rfl rfl)
theorem dX9_bestStep_10 : decode cX9_bestStep 10 = .ok (.ifCond .eq 13, 3) := dk_153 0 13 (dk_at dksX9_bestStep_0 10 rfl rfl)
theorem dX9_bestStep_13 : decode cX9_bestStep 13 = .ok (.iload_n 2, 1) := dk_28 (dk_at dksX9_bestStep_0 13 rfl rfl)
theorem dX9_bestStep_14 : decode cX9_bestStep 14 = .ok (.iconst 0, 1) := dk_3 (dk_at dksX9_bestStep_0 14 rfl rfl)
theorem dX9_bestStep_15 : decode cX9_bestStep 15 = .ok (.bipush 15, 2) := dk_16 15 (dk_at dksX9_bestStep_0 15 rfl rfl)
theorem dX9_bestStep_17 : decode cX9_bestStep 17 = .ok (.invokestatic 124, 3) := dk_184 0 124 (dk_at dksX9_bestStep_0 17 rfl rfl)
theorem dX9_bestStep_20 : decode cX9_bestStep 20 = .ok (.ifCond .ne 5, 3) := dk_154 0 5 (dk_at dksX9_bestStep_0 20 rfl rfl)
theorem dX9_bestStep_23 : decode cX9_bestStep 23 = .ok (.iconst (-1), 1) := dk_2 (dk_at dksX9_bestStep_0 23 rfl rfl)
theorem dX9_bestStep_24 : decode cX9_bestStep 24 = .ok (.ireturn, 1) := dk_172 (dk_at dksX9_bestStep_1 0 rfl rfl)
theorem dX9_bestStep_25 : decode cX9_bestStep 25 = .ok (.iload_n 2, 1) := dk_28 (dk_at dksX9_bestStep_1 1 rfl rfl)
theorem dX9_bestStep_26 : decode cX9_bestStep 26 = .ok (.aload_n 0, 1) := dk_42 (dk_at dksX9_bestStep_1 2 rfl rfl)
theorem dX9_bestStep_27 : decode cX9_bestStep 27 = .ok (.invokevirtual 233, 3) := dk_182 0 233 (dk_at dksX9_bestStep_1 3 rfl rfl)
theorem dX9_bestStep_30 : decode cX9_bestStep 30 = .ok (.if_icmp .le 6, 3) := dk_164 0 6 (dk_at dksX9_bestStep_1 6 rfl rfl)
theorem dX9_bestStep_33 : decode cX9_bestStep 33 = .ok (.bipush (-2), 2) := dk_16 254 (dk_at dksX9_bestStep_1 9 rfl rfl)
theorem dX9_bestStep_35 : decode cX9_bestStep 35 = .ok (.ireturn, 1) := dk_172 (dk_at dksX9_bestStep_1 11 rfl rfl)
theorem dX9_bestStep_36 : decode cX9_bestStep 36 = .ok (.iconst 0, 1) := dk_3 (dk_at dksX9_bestStep_1 12 rfl rfl)
theorem dX9_bestStep_37 : decode cX9_bestStep 37 = .ok (.istore_n 3, 1) := dk_62 (dk_at dksX9_bestStep_1 13 rfl rfl)
theorem dX9_bestStep_38 : decode cX9_bestStep 38 = .ok (.iconst 0, 1) := dk_3 (dk_at dksX9_bestStep_1 14 rfl rfl)
theorem dX9_bestStep_39 : decode cX9_bestStep 39 = .ok (.istore 4, 2) := dk_54 4 (dk_at dksX9_bestStep_1 15 rfl rfl)
theorem dX9_bestStep_41 : decode cX9_bestStep 41 = .ok (.aload_n 0, 1) := dk_42 (dk_at dksX9_bestStep_1 17 rfl rfl)
theorem dX9_bestStep_42 : decode cX9_bestStep 42 = .ok (.iload_n 1, 1) := dk_27 (dk_at dksX9_bestStep_1 18 rfl rfl)
theorem dX9_bestStep_43 : decode cX9_bestStep 43 = .ok (.iload_n 2, 1) := dk_28 (dk_at dksX9_bestStep_1 19 rfl rfl)
theorem dX9_bestStep_44 : decode cX9_bestStep 44 = .ok (.invokevirtual 230, 3) := dk_182 0 230 (dk_at dksX9_bestStep_1 20 rfl rfl)
theorem dX9_bestStep_47 : decode cX9_bestStep 47 = .ok (.bipush 10, 2) := dk_16 10 (dk_at dksX9_bestStep_2 0 rfl rfl)
theorem dX9_bestStep_49 : decode cX9_bestStep 49 = .ok (.istore 5, 2) := dk_54 5 (dk_at dksX9_bestStep_2 2 rfl rfl)
theorem dX9_bestStep_51 : decode cX9_bestStep 51 = .ok (.iload 5, 2) := dk_21 5 (dk_at dksX9_bestStep_2 4 rfl rfl)
theorem dX9_bestStep_53 : decode cX9_bestStep 53 = .ok (.sipush 1000, 3) := dk_17 3 232 (dk_at dksX9_bestStep_2 6 rfl rfl)
theorem dX9_bestStep_56 : decode cX9_bestStep 56 = .ok (.if_icmp .gt 68, 3) := dk_163 0 68 (dk_at dksX9_bestStep_2 9 rfl rfl)
theorem dX9_bestStep_59 : decode cX9_bestStep 59 = .ok (.aload_n 0, 1) := dk_42 (dk_at dksX9_bestStep_2 12 rfl rfl)
theorem dX9_bestStep_60 : decode cX9_bestStep 60 = .ok (.aload_n 0, 1) := dk_42 (dk_at dksX9_bestStep_2 13 rfl rfl)
theorem dX9_bestStep_61 : decode cX9_bestStep 61 = .ok (.aload_n 0, 1) := dk_42 (dk_at dksX9_bestStep_2 14 rfl rfl)
theorem dX9_bestStep_62 : decode cX9_bestStep 62 = .ok (.iload_n 1, 1) := dk_27 (dk_at dksX9_bestStep_2 15 rfl rfl)
theorem dX9_bestStep_63 : decode cX9_bestStep 63 = .ok (.iconst 1, 1) := dk_4 (dk_at dksX9_bestStep_2 16 rfl rfl)
theorem dX9_bestStep_64 : decode cX9_bestStep 64 = .ok (.invokevirtual 115, 3) := dk_182 0 115 (dk_at dksX9_bestStep_2 17 rfl rfl)
theorem dX9_bestStep_67 : decode cX9_bestStep 67 = .ok (.aload_n 0, 1) := dk_42 (dk_at dksX9_bestStep_2 20 rfl rfl)
theorem dX9_bestStep_68 : decode cX9_bestStep 68 = .ok (.getfield 32, 3) := dk_180 0 32 (dk_at dksX9_bestStep_2 21 rfl rfl)
theorem dX9_bestStep_71 : decode cX9_bestStep 71 = .ok (.iconst 0, 1) := dk_3 (dk_at dksX9_bestStep_3 0 rfl rfl)
theorem dX9_bestStep_72 : decode cX9_bestStep 72 = .ok (.iaload, 1) := dk_46 (dk_at dksX9_bestStep_3 1 rfl rfl)
theorem dX9_bestStep_73 : decode cX9_bestStep 73 = .ok (.iload 5, 2) := dk_21 5 (dk_at dksX9_bestStep_3 2 rfl rfl)
theorem dX9_bestStep_75 : decode cX9_bestStep 75 = .ok (.invokevirtual 222, 3) := dk_182 0 222 (dk_at dksX9_bestStep_3 4 rfl rfl)
theorem dX9_bestStep_78 : decode cX9_bestStep 78 = .ok (.aload_n 0, 1) := dk_42 (dk_at dksX9_bestStep_3 7 rfl rfl)
theorem dX9_bestStep_79 : decode cX9_bestStep 79 = .ok (.getfield 32, 3) := dk_180 0 32 (dk_at dksX9_bestStep_3 8 rfl rfl)
theorem dX9_bestStep_82 : decode cX9_bestStep 82 = .ok (.iconst 0, 1) := dk_3 (dk_at dksX9_bestStep_3 11 rfl rfl)
theorem dX9_bestStep_83 : decode cX9_bestStep 83 = .ok (.iaload, 1) := dk_46 (dk_at dksX9_bestStep_3 12 rfl rfl)
theorem dX9_bestStep_84 : decode cX9_bestStep 84 = .ok (.iload 5, 2) := dk_21 5 (dk_at dksX9_bestStep_3 13 rfl rfl)
theorem dX9_bestStep_86 : decode cX9_bestStep 86 = .ok (.aload_n 0, 1) := dk_42 (dk_at dksX9_bestStep_3 15 rfl rfl)
theorem dX9_bestStep_87 : decode cX9_bestStep 87 = .ok (.getfield 32, 3) := dk_180 0 32 (dk_at dksX9_bestStep_3 16 rfl rfl)
theorem dX9_bestStep_90 : decode cX9_bestStep 90 = .ok (.iconst 2, 1) := dk_5 (dk_at dksX9_bestStep_3 19 rfl rfl)
theorem dX9_bestStep_91 : decode cX9_bestStep 91 = .ok (.iaload, 1) := dk_46 (dk_at dksX9_bestStep_3 20 rfl rfl)
theorem dX9_bestStep_92 : decode cX9_bestStep 92 = .ok (.invokevirtual 227, 3) := dk_182 0 227 (dk_at dksX9_bestStep_3 21 rfl rfl)
theorem dX9_bestStep_95 : decode cX9_bestStep 95 = .ok (.istore 6, 2) := dk_54 6 (dk_at dksX9_bestStep_4 0 rfl rfl)
theorem dX9_bestStep_97 : decode cX9_bestStep 97 = .ok (.iload_n 3, 1) := dk_29 (dk_at dksX9_bestStep_4 2 rfl rfl)
theorem dX9_bestStep_98 : decode cX9_bestStep 98 = .ok (.ifCond .le 13, 3) := dk_158 0 13 (dk_at dksX9_bestStep_4 3 rfl rfl)
theorem dX9_bestStep_101 : decode cX9_bestStep 101 = .ok (.iload 6, 2) := dk_21 6 (dk_at dksX9_bestStep_4 6 rfl rfl)
theorem dX9_bestStep_103 : decode cX9_bestStep 103 = .ok (.iload 4, 2) := dk_21 4 (dk_at dksX9_bestStep_4 8 rfl rfl)
theorem dX9_bestStep_105 : decode cX9_bestStep 105 = .ok (.if_icmp .gt 6, 3) := dk_163 0 6 (dk_at dksX9_bestStep_4 10 rfl rfl)
theorem dX9_bestStep_108 : decode cX9_bestStep 108 = .ok (.goto 10, 3) := dk_167 0 10 (dk_at dksX9_bestStep_4 13 rfl rfl)
theorem dX9_bestStep_111 : decode cX9_bestStep 111 = .ok (.iload 5, 2) := dk_21 5 (dk_at dksX9_bestStep_4 16 rfl rfl)
theorem dX9_bestStep_113 : decode cX9_bestStep 113 = .ok (.istore_n 3, 1) := dk_62 (dk_at dksX9_bestStep_4 18 rfl rfl)
theorem dX9_bestStep_114 : decode cX9_bestStep 114 = .ok (.iload 6, 2) := dk_21 6 (dk_at dksX9_bestStep_4 19 rfl rfl)
theorem dX9_bestStep_116 : decode cX9_bestStep 116 = .ok (.istore 4, 2) := dk_54 4 (dk_at dksX9_bestStep_4 21 rfl rfl)
theorem dX9_bestStep_118 : decode cX9_bestStep 118 = .ok (.iinc 5 1, 3) := dk_132 5 1 (dk_at dksX9_bestStep_5 0 rfl rfl)
theorem dX9_bestStep_121 : decode cX9_bestStep 121 = .ok (.goto (-70), 3) := dk_167 255 186 (dk_at dksX9_bestStep_5 3 rfl rfl)
theorem dX9_bestStep_124 : decode cX9_bestStep 124 = .ok (.iload_n 3, 1) := dk_29 (dk_at dksX9_bestStep_5 6 rfl rfl)
theorem dX9_bestStep_125 : decode cX9_bestStep 125 = .ok (.ireturn, 1) := dk_172 (dk_at dksX9_bestStep_5 7 rfl rfl)
abbrev cX9_joint : ByteArray := prog_17_method_102_code
def yX9_joint : MethodName := ⟨RX9, "joint", "(III)I"⟩
def dkwX9_joint_3 : List UInt8 := [27, 182, 0, 237, 42, 180, 0, 32, 5, 46, 182, 0, 249, 172]
abbrev dktX9_joint_3 : List UInt8 := dkwX9_joint_3 ++ []
def dkwX9_joint_2 : List UInt8 := [96, 162, 0, 16, 42, 28, 21, 4, 182, 0, 215, 132, 4, 1, 167, 255, 236, 42, 28, 182, 0, 218, 42, 42]
abbrev dktX9_joint_2 : List UInt8 := dkwX9_joint_2 ++ dktX9_joint_3
def dkwX9_joint_1 : List UInt8 := [160, 0, 7, 19, 1, 70, 172, 42, 27, 29, 182, 0, 230, 7, 29, 104, 54, 4, 21, 4, 7, 29, 104, 7]
abbrev dktX9_joint_1 : List UInt8 := dkwX9_joint_1 ++ dktX9_joint_2
def dkwX9_joint_0 : List UInt8 := [42, 3, 181, 0, 49, 42, 27, 29, 182, 1, 67, 153, 0, 16, 42, 28, 182, 1, 40, 153, 0, 8, 27, 28]
abbrev dktX9_joint_0 : List UInt8 := dkwX9_joint_0 ++ dktX9_joint_1
theorem dksX9_joint_0 : cX9_joint.data.toList.drop 0 = dktX9_joint_0 := by decide +kernel
theorem dksX9_joint_1 : cX9_joint.data.toList.drop 24 = dktX9_joint_1 := dk_seg dksX9_joint_0 24 rfl rfl
theorem dksX9_joint_2 : cX9_joint.data.toList.drop 48 = dktX9_joint_2 := dk_seg dksX9_joint_1 24 rfl rfl
theorem dksX9_joint_3 : cX9_joint.data.toList.drop 72 = dktX9_joint_3 := dk_seg dksX9_joint_2 24 rfl rfl
theorem dX9_joint_0 : decode cX9_joint 0 = .ok (.aload_n 0, 1) := dk_42 (dk_at dksX9_joint_0 0 rfl rfl)
theorem dX9_joint_1 : decode cX9_joint 1 = .ok (.iconst 0, 1) := dk_3 (dk_at dksX9_joint_0 1 rfl rfl)
theorem dX9_joint_2 : decode cX9_joint 2 = .ok (.putfield 49, 3) := dk_181 0 49 (dk_at dksX9_joint_0 2 rfl rfl)
theorem dX9_joint_5 : decode cX9_joint 5 = .ok (.aload_n 0, 1) := dk_42 (dk_at dksX9_joint_0 5 rfl rfl)
theorem dX9_joint_6 : decode cX9_joint 6 = .ok (.iload_n 1, 1) := dk_27 (dk_at dksX9_joint_0 6 rfl rfl)
theorem dX9_joint_7 : decode cX9_joint 7 = .ok (.iload_n 3, 1) := dk_29 (dk_at dksX9_joint_0 7 rfl rfl)
theorem dX9_joint_8 : decode cX9_joint 8 = .ok (.invokevirtual 323, 3) := dk_182 1 67 (dk_at dksX9_joint_0 8 rfl rfl)
theorem dX9_joint_11 : decode cX9_joint 11 = .ok (.ifCond .eq 16, 3) := dk_153 0 16 (dk_at dksX9_joint_0 11 rfl rfl)
theorem dX9_joint_14 : decode cX9_joint 14 = .ok (.aload_n 0, 1) := dk_42 (dk_at dksX9_joint_0 14 rfl rfl)
theorem dX9_joint_15 : decode cX9_joint 15 = .ok (.iload_n 2, 1) := dk_28 (dk_at dksX9_joint_0 15 rfl rfl)
theorem dX9_joint_16 : decode cX9_joint 16 = .ok (.invokevirtual 296, 3) := dk_182 1 40 (dk_at dksX9_joint_0 16 rfl rfl)
theorem dX9_joint_19 : decode cX9_joint 19 = .ok (.ifCond .eq 8, 3) := dk_153 0 8 (dk_at dksX9_joint_0 19 rfl rfl)
theorem dX9_joint_22 : decode cX9_joint 22 = .ok (.iload_n 1, 1) := dk_27 (dk_at dksX9_joint_0 22 rfl rfl)
theorem dX9_joint_23 : decode cX9_joint 23 = .ok (.iload_n 2, 1) := dk_28 (dk_at dksX9_joint_0 23 rfl rfl)
theorem dX9_joint_24 : decode cX9_joint 24 = .ok (.if_icmp .ne 7, 3) := dk_160 0 7 (dk_at dksX9_joint_1 0 rfl rfl)
theorem dX9_joint_27 : decode cX9_joint 27 = .ok (.ldc_w 326, 3) := dk_19 1 70 (dk_at dksX9_joint_1 3 rfl rfl)
theorem dX9_joint_30 : decode cX9_joint 30 = .ok (.ireturn, 1) := dk_172 (dk_at dksX9_joint_1 6 rfl rfl)
theorem dX9_joint_31 : decode cX9_joint 31 = .ok (.aload_n 0, 1) := dk_42 (dk_at dksX9_joint_1 7 rfl rfl)
theorem dX9_joint_32 : decode cX9_joint 32 = .ok (.iload_n 1, 1) := dk_27 (dk_at dksX9_joint_1 8 rfl rfl)
theorem dX9_joint_33 : decode cX9_joint 33 = .ok (.iload_n 3, 1) := dk_29 (dk_at dksX9_joint_1 9 rfl rfl)
theorem dX9_joint_34 : decode cX9_joint 34 = .ok (.invokevirtual 230, 3) := dk_182 0 230 (dk_at dksX9_joint_1 10 rfl rfl)
theorem dX9_joint_37 : decode cX9_joint 37 = .ok (.iconst 4, 1) := dk_7 (dk_at dksX9_joint_1 13 rfl rfl)
theorem dX9_joint_38 : decode cX9_joint 38 = .ok (.iload_n 3, 1) := dk_29 (dk_at dksX9_joint_1 14 rfl rfl)
theorem dX9_joint_39 : decode cX9_joint 39 = .ok (.imul, 1) := dk_104 (dk_at dksX9_joint_1 15 rfl rfl)
theorem dX9_joint_40 : decode cX9_joint 40 = .ok (.istore 4, 2) := dk_54 4 (dk_at dksX9_joint_1 16 rfl rfl)
theorem dX9_joint_42 : decode cX9_joint 42 = .ok (.iload 4, 2) := dk_21 4 (dk_at dksX9_joint_1 18 rfl rfl)
theorem dX9_joint_44 : decode cX9_joint 44 = .ok (.iconst 4, 1) := dk_7 (dk_at dksX9_joint_1 20 rfl rfl)
theorem dX9_joint_45 : decode cX9_joint 45 = .ok (.iload_n 3, 1) := dk_29 (dk_at dksX9_joint_1 21 rfl rfl)
theorem dX9_joint_46 : decode cX9_joint 46 = .ok (.imul, 1) := dk_104 (dk_at dksX9_joint_1 22 rfl rfl)
theorem dX9_joint_47 : decode cX9_joint 47 = .ok (.iconst 4, 1) := dk_7 (dk_at dksX9_joint_1 23 rfl rfl)
theorem dX9_joint_48 : decode cX9_joint 48 = .ok (.iadd, 1) := dk_96 (dk_at dksX9_joint_2 0 rfl rfl)
theorem dX9_joint_49 : decode cX9_joint 49 = .ok (.if_icmp .ge 16, 3) := dk_162 0 16 (dk_at dksX9_joint_2 1 rfl rfl)
theorem dX9_joint_52 : decode cX9_joint 52 = .ok (.aload_n 0, 1) := dk_42 (dk_at dksX9_joint_2 4 rfl rfl)
theorem dX9_joint_53 : decode cX9_joint 53 = .ok (.iload_n 2, 1) := dk_28 (dk_at dksX9_joint_2 5 rfl rfl)
theorem dX9_joint_54 : decode cX9_joint 54 = .ok (.iload 4, 2) := dk_21 4 (dk_at dksX9_joint_2 6 rfl rfl)
theorem dX9_joint_56 : decode cX9_joint 56 = .ok (.invokevirtual 215, 3) := dk_182 0 215 (dk_at dksX9_joint_2 8 rfl rfl)
theorem dX9_joint_59 : decode cX9_joint 59 = .ok (.iinc 4 1, 3) := dk_132 4 1 (dk_at dksX9_joint_2 11 rfl rfl)
theorem dX9_joint_62 : decode cX9_joint 62 = .ok (.goto (-20), 3) := dk_167 255 236 (dk_at dksX9_joint_2 14 rfl rfl)
theorem dX9_joint_65 : decode cX9_joint 65 = .ok (.aload_n 0, 1) := dk_42 (dk_at dksX9_joint_2 17 rfl rfl)
theorem dX9_joint_66 : decode cX9_joint 66 = .ok (.iload_n 2, 1) := dk_28 (dk_at dksX9_joint_2 18 rfl rfl)
theorem dX9_joint_67 : decode cX9_joint 67 = .ok (.invokevirtual 218, 3) := dk_182 0 218 (dk_at dksX9_joint_2 19 rfl rfl)
theorem dX9_joint_70 : decode cX9_joint 70 = .ok (.aload_n 0, 1) := dk_42 (dk_at dksX9_joint_2 22 rfl rfl)
theorem dX9_joint_71 : decode cX9_joint 71 = .ok (.aload_n 0, 1) := dk_42 (dk_at dksX9_joint_2 23 rfl rfl)
theorem dX9_joint_72 : decode cX9_joint 72 = .ok (.iload_n 1, 1) := dk_27 (dk_at dksX9_joint_3 0 rfl rfl)
theorem dX9_joint_73 : decode cX9_joint 73 = .ok (.invokevirtual 237, 3) := dk_182 0 237 (dk_at dksX9_joint_3 1 rfl rfl)
theorem dX9_joint_76 : decode cX9_joint 76 = .ok (.aload_n 0, 1) := dk_42 (dk_at dksX9_joint_3 4 rfl rfl)
theorem dX9_joint_77 : decode cX9_joint 77 = .ok (.getfield 32, 3) := dk_180 0 32 (dk_at dksX9_joint_3 5 rfl rfl)
theorem dX9_joint_80 : decode cX9_joint 80 = .ok (.iconst 2, 1) := dk_5 (dk_at dksX9_joint_3 8 rfl rfl)
theorem dX9_joint_81 : decode cX9_joint 81 = .ok (.iaload, 1) := dk_46 (dk_at dksX9_joint_3 9 rfl rfl)
theorem dX9_joint_82 : decode cX9_joint 82 = .ok (.invokevirtual 249, 3) := dk_182 0 249 (dk_at dksX9_joint_3 10 rfl rfl)
theorem dX9_joint_85 : decode cX9_joint 85 = .ok (.ireturn, 1) := dk_172 (dk_at dksX9_joint_3 13 rfl rfl)
abbrev cX9_limitFor : ByteArray := prog_17_method_103_code
def yX9_limitFor : MethodName := ⟨RX9, "limitFor", "(II)I"⟩
def dkwX9_limitFor_4 : List UInt8 := [172]
abbrev dktX9_limitFor_4 : List UInt8 := dkwX9_limitFor_4 ++ []
def dkwX9_limitFor_3 : List UInt8 := [20, 0, 199, 22, 5, 33, 101, 105, 22, 5, 148, 157, 0, 11, 22, 5, 33, 101, 136, 167, 0, 5, 16, 254]
abbrev dktX9_limitFor_3 : List UInt8 := dkwX9_limitFor_3 ++ dktX9_limitFor_4
def dkwX9_limitFor_2 : List UInt8 := [66, 42, 180, 0, 39, 5, 47, 42, 180, 0, 39, 6, 47, 97, 42, 180, 0, 39, 7, 47, 97, 55, 5]
abbrev dktX9_limitFor_2 : List UInt8 := dkwX9_limitFor_2 ++ dktX9_limitFor_3
def dkwX9_limitFor_1 : List UInt8 := [172, 28, 42, 182, 0, 233, 164, 0, 6, 16, 254, 172, 42, 42, 27, 28, 182, 1, 35, 2, 182, 0, 249, 133]
abbrev dktX9_limitFor_1 : List UInt8 := dkwX9_limitFor_1 ++ dktX9_limitFor_2
def dkwX9_limitFor_0 : List UInt8 := [42, 3, 181, 0, 49, 42, 27, 182, 1, 40, 153, 0, 13, 28, 3, 16, 15, 184, 0, 124, 154, 0, 5, 2]
abbrev dktX9_limitFor_0 : List UInt8 := dkwX9_limitFor_0 ++ dktX9_limitFor_1
theorem dksX9_limitFor_0 : cX9_limitFor.data.toList.drop 0 = dktX9_limitFor_0 := by decide +kernel
theorem dksX9_limitFor_1 : cX9_limitFor.data.toList.drop 24 = dktX9_limitFor_1 := dk_seg dksX9_limitFor_0 24 rfl rfl
theorem dksX9_limitFor_2 : cX9_limitFor.data.toList.drop 48 = dktX9_limitFor_2 := dk_seg dksX9_limitFor_1 24 rfl rfl
theorem dksX9_limitFor_3 : cX9_limitFor.data.toList.drop 71 = dktX9_limitFor_3 := dk_seg dksX9_limitFor_2 23 rfl rfl
theorem dksX9_limitFor_4 : cX9_limitFor.data.toList.drop 95 = dktX9_limitFor_4 := dk_seg dksX9_limitFor_3 24 rfl rfl
theorem dX9_limitFor_0 : decode cX9_limitFor 0 = .ok (.aload_n 0, 1) := dk_42 (dk_at dksX9_limitFor_0 0 rfl rfl)
theorem dX9_limitFor_1 : decode cX9_limitFor 1 = .ok (.iconst 0, 1) := dk_3 (dk_at dksX9_limitFor_0 1 rfl rfl)
theorem dX9_limitFor_2 : decode cX9_limitFor 2 = .ok (.putfield 49, 3) := dk_181 0 49 (dk_at dksX9_limitFor_0 2 rfl rfl)
theorem dX9_limitFor_5 : decode cX9_limitFor 5 = .ok (.aload_n 0, 1) := dk_42 (dk_at dksX9_limitFor_0 5 rfl rfl)
theorem dX9_limitFor_6 : decode cX9_limitFor 6 = .ok (.iload_n 1, 1) := dk_27 (dk_at dksX9_limitFor_0 6 rfl rfl)
theorem dX9_limitFor_7 : decode cX9_limitFor 7 = .ok (.invokevirtual 296, 3) := dk_182 1 40 (dk_at dksX9_limitFor_0 7 rfl rfl)
theorem dX9_limitFor_10 : decode cX9_limitFor 10 = .ok (.ifCond .eq 13, 3) := dk_153 0 13 (dk_at dksX9_limitFor_0 10 rfl rfl)
theorem dX9_limitFor_13 : decode cX9_limitFor 13 = .ok (.iload_n 2, 1) := dk_28 (dk_at dksX9_limitFor_0 13 rfl rfl)
theorem dX9_limitFor_14 : decode cX9_limitFor 14 = .ok (.iconst 0, 1) := dk_3 (dk_at dksX9_limitFor_0 14 rfl rfl)
theorem dX9_limitFor_15 : decode cX9_limitFor 15 = .ok (.bipush 15, 2) := dk_16 15 (dk_at dksX9_limitFor_0 15 rfl rfl)
theorem dX9_limitFor_17 : decode cX9_limitFor 17 = .ok (.invokestatic 124, 3) := dk_184 0 124 (dk_at dksX9_limitFor_0 17 rfl rfl)
theorem dX9_limitFor_20 : decode cX9_limitFor 20 = .ok (.ifCond .ne 5, 3) := dk_154 0 5 (dk_at dksX9_limitFor_0 20 rfl rfl)
theorem dX9_limitFor_23 : decode cX9_limitFor 23 = .ok (.iconst (-1), 1) := dk_2 (dk_at dksX9_limitFor_0 23 rfl rfl)
theorem dX9_limitFor_24 : decode cX9_limitFor 24 = .ok (.ireturn, 1) := dk_172 (dk_at dksX9_limitFor_1 0 rfl rfl)
theorem dX9_limitFor_25 : decode cX9_limitFor 25 = .ok (.iload_n 2, 1) := dk_28 (dk_at dksX9_limitFor_1 1 rfl rfl)
theorem dX9_limitFor_26 : decode cX9_limitFor 26 = .ok (.aload_n 0, 1) := dk_42 (dk_at dksX9_limitFor_1 2 rfl rfl)
theorem dX9_limitFor_27 : decode cX9_limitFor 27 = .ok (.invokevirtual 233, 3) := dk_182 0 233 (dk_at dksX9_limitFor_1 3 rfl rfl)
theorem dX9_limitFor_30 : decode cX9_limitFor 30 = .ok (.if_icmp .le 6, 3) := dk_164 0 6 (dk_at dksX9_limitFor_1 6 rfl rfl)
theorem dX9_limitFor_33 : decode cX9_limitFor 33 = .ok (.bipush (-2), 2) := dk_16 254 (dk_at dksX9_limitFor_1 9 rfl rfl)
theorem dX9_limitFor_35 : decode cX9_limitFor 35 = .ok (.ireturn, 1) := dk_172 (dk_at dksX9_limitFor_1 11 rfl rfl)
theorem dX9_limitFor_36 : decode cX9_limitFor 36 = .ok (.aload_n 0, 1) := dk_42 (dk_at dksX9_limitFor_1 12 rfl rfl)
theorem dX9_limitFor_37 : decode cX9_limitFor 37 = .ok (.aload_n 0, 1) := dk_42 (dk_at dksX9_limitFor_1 13 rfl rfl)
theorem dX9_limitFor_38 : decode cX9_limitFor 38 = .ok (.iload_n 1, 1) := dk_27 (dk_at dksX9_limitFor_1 14 rfl rfl)
theorem dX9_limitFor_39 : decode cX9_limitFor 39 = .ok (.iload_n 2, 1) := dk_28 (dk_at dksX9_limitFor_1 15 rfl rfl)
theorem dX9_limitFor_40 : decode cX9_limitFor 40 = .ok (.invokevirtual 291, 3) := dk_182 1 35 (dk_at dksX9_limitFor_1 16 rfl rfl)
theorem dX9_limitFor_43 : decode cX9_limitFor 43 = .ok (.iconst (-1), 1) := dk_2 (dk_at dksX9_limitFor_1 19 rfl rfl)
theorem dX9_limitFor_44 : decode cX9_limitFor 44 = .ok (.invokevirtual 249, 3) := dk_182 0 249 (dk_at dksX9_limitFor_1 20 rfl rfl)
theorem dX9_limitFor_47 : decode cX9_limitFor 47 = .ok (.i2l, 1) := dk_133 (dk_at dksX9_limitFor_1 23 rfl rfl)
theorem dX9_limitFor_48 : decode cX9_limitFor 48 = .ok (.lstore_n 3, 1) := dk_66 (dk_at dksX9_limitFor_2 0 rfl rfl)
theorem dX9_limitFor_49 : decode cX9_limitFor 49 = .ok (.aload_n 0, 1) := dk_42 (dk_at dksX9_limitFor_2 1 rfl rfl)
theorem dX9_limitFor_50 : decode cX9_limitFor 50 = .ok (.getfield 39, 3) := dk_180 0 39 (dk_at dksX9_limitFor_2 2 rfl rfl)
theorem dX9_limitFor_53 : decode cX9_limitFor 53 = .ok (.iconst 2, 1) := dk_5 (dk_at dksX9_limitFor_2 5 rfl rfl)
theorem dX9_limitFor_54 : decode cX9_limitFor 54 = .ok (.laload, 1) := dk_47 (dk_at dksX9_limitFor_2 6 rfl rfl)
theorem dX9_limitFor_55 : decode cX9_limitFor 55 = .ok (.aload_n 0, 1) := dk_42 (dk_at dksX9_limitFor_2 7 rfl rfl)
theorem dX9_limitFor_56 : decode cX9_limitFor 56 = .ok (.getfield 39, 3) := dk_180 0 39 (dk_at dksX9_limitFor_2 8 rfl rfl)
theorem dX9_limitFor_59 : decode cX9_limitFor 59 = .ok (.iconst 3, 1) := dk_6 (dk_at dksX9_limitFor_2 11 rfl rfl)
theorem dX9_limitFor_60 : decode cX9_limitFor 60 = .ok (.laload, 1) := dk_47 (dk_at dksX9_limitFor_2 12 rfl rfl)
theorem dX9_limitFor_61 : decode cX9_limitFor 61 = .ok (.ladd, 1) := dk_97 (dk_at dksX9_limitFor_2 13 rfl rfl)
theorem dX9_limitFor_62 : decode cX9_limitFor 62 = .ok (.aload_n 0, 1) := dk_42 (dk_at dksX9_limitFor_2 14 rfl rfl)
theorem dX9_limitFor_63 : decode cX9_limitFor 63 = .ok (.getfield 39, 3) := dk_180 0 39 (dk_at dksX9_limitFor_2 15 rfl rfl)
theorem dX9_limitFor_66 : decode cX9_limitFor 66 = .ok (.iconst 4, 1) := dk_7 (dk_at dksX9_limitFor_2 18 rfl rfl)
theorem dX9_limitFor_67 : decode cX9_limitFor 67 = .ok (.laload, 1) := dk_47 (dk_at dksX9_limitFor_2 19 rfl rfl)
theorem dX9_limitFor_68 : decode cX9_limitFor 68 = .ok (.ladd, 1) := dk_97 (dk_at dksX9_limitFor_2 20 rfl rfl)
theorem dX9_limitFor_69 : decode cX9_limitFor 69 = .ok (.lstore 5, 2) := dk_55 5 (dk_at dksX9_limitFor_2 21 rfl rfl)
theorem dX9_limitFor_71 : decode cX9_limitFor 71 = .ok (.ldc2_w 199, 3) := dk_20 0 199 (dk_at dksX9_limitFor_3 0 rfl rfl)
theorem dX9_limitFor_74 : decode cX9_limitFor 74 = .ok (.lload 5, 2) := dk_22 5 (dk_at dksX9_limitFor_3 3 rfl rfl)
theorem dX9_limitFor_76 : decode cX9_limitFor 76 = .ok (.lload_n 3, 1) := dk_33 (dk_at dksX9_limitFor_3 5 rfl rfl)
theorem dX9_limitFor_77 : decode cX9_limitFor 77 = .ok (.lsub, 1) := dk_101 (dk_at dksX9_limitFor_3 6 rfl rfl)
theorem dX9_limitFor_78 : decode cX9_limitFor 78 = .ok (.lmul, 1) := dk_105 (dk_at dksX9_limitFor_3 7 rfl rfl)
theorem dX9_limitFor_79 : decode cX9_limitFor 79 = .ok (.lload 5, 2) := dk_22 5 (dk_at dksX9_limitFor_3 8 rfl rfl)
theorem dX9_limitFor_81 : decode cX9_limitFor 81 = .ok (.lcmp, 1) := dk_148 (dk_at dksX9_limitFor_3 10 rfl rfl)
theorem dX9_limitFor_82 : decode cX9_limitFor 82 = .ok (.ifCond .gt 11, 3) := dk_157 0 11 (dk_at dksX9_limitFor_3 11 rfl rfl)
theorem dX9_limitFor_85 : decode cX9_limitFor 85 = .ok (.lload 5, 2) := dk_22 5 (dk_at dksX9_limitFor_3 14 rfl rfl)
theorem dX9_limitFor_87 : decode cX9_limitFor 87 = .ok (.lload_n 3, 1) := dk_33 (dk_at dksX9_limitFor_3 16 rfl rfl)
theorem dX9_limitFor_88 : decode cX9_limitFor 88 = .ok (.lsub, 1) := dk_101 (dk_at dksX9_limitFor_3 17 rfl rfl)
theorem dX9_limitFor_89 : decode cX9_limitFor 89 = .ok (.l2i, 1) := dk_136 (dk_at dksX9_limitFor_3 18 rfl rfl)
theorem dX9_limitFor_90 : decode cX9_limitFor 90 = .ok (.goto 5, 3) := dk_167 0 5 (dk_at dksX9_limitFor_3 19 rfl rfl)
theorem dX9_limitFor_93 : decode cX9_limitFor 93 = .ok (.bipush (-2), 2) := dk_16 254 (dk_at dksX9_limitFor_3 22 rfl rfl)
theorem dX9_limitFor_95 : decode cX9_limitFor 95 = .ok (.ireturn, 1) := dk_172 (dk_at dksX9_limitFor_4 0 rfl rfl)
abbrev cX9_byBasis : ByteArray := prog_17_method_104_code
def yX9_byBasis : MethodName := ⟨RX9, "byBasis", "(III)I"⟩
def dkwX9_byBasis_2 : List UInt8 := [182, 0, 246, 54, 4, 42, 21, 4, 42, 180, 0, 32, 5, 46, 7, 108, 182, 0, 249, 172]
abbrev dktX9_byBasis_2 : List UInt8 := dkwX9_byBasis_2 ++ []
def dkwX9_byBasis_1 : List UInt8 := [184, 0, 124, 153, 0, 12, 29, 3, 4, 184, 0, 124, 154, 0, 7, 19, 1, 70, 172, 42, 27, 28, 29]
abbrev dktX9_byBasis_1 : List UInt8 := dkwX9_byBasis_1 ++ dktX9_byBasis_2
def dkwX9_byBasis_0 : List UInt8 := [42, 3, 181, 0, 49, 42, 27, 182, 1, 40, 153, 0, 27, 28, 3, 42, 3, 182, 0, 174, 4, 100]
abbrev dktX9_byBasis_0 : List UInt8 := dkwX9_byBasis_0 ++ dktX9_byBasis_1
theorem dksX9_byBasis_0 : cX9_byBasis.data.toList.drop 0 = dktX9_byBasis_0 := by decide +kernel
theorem dksX9_byBasis_1 : cX9_byBasis.data.toList.drop 22 = dktX9_byBasis_1 := dk_seg dksX9_byBasis_0 22 rfl rfl
theorem dksX9_byBasis_2 : cX9_byBasis.data.toList.drop 45 = dktX9_byBasis_2 := dk_seg dksX9_byBasis_1 23 rfl rfl
theorem dX9_byBasis_0 : decode cX9_byBasis 0 = .ok (.aload_n 0, 1) := dk_42 (dk_at dksX9_byBasis_0 0 rfl rfl)
theorem dX9_byBasis_1 : decode cX9_byBasis 1 = .ok (.iconst 0, 1) := dk_3 (dk_at dksX9_byBasis_0 1 rfl rfl)
theorem dX9_byBasis_2 : decode cX9_byBasis 2 = .ok (.putfield 49, 3) := dk_181 0 49 (dk_at dksX9_byBasis_0 2 rfl rfl)
theorem dX9_byBasis_5 : decode cX9_byBasis 5 = .ok (.aload_n 0, 1) := dk_42 (dk_at dksX9_byBasis_0 5 rfl rfl)
theorem dX9_byBasis_6 : decode cX9_byBasis 6 = .ok (.iload_n 1, 1) := dk_27 (dk_at dksX9_byBasis_0 6 rfl rfl)
theorem dX9_byBasis_7 : decode cX9_byBasis 7 = .ok (.invokevirtual 296, 3) := dk_182 1 40 (dk_at dksX9_byBasis_0 7 rfl rfl)
theorem dX9_byBasis_10 : decode cX9_byBasis 10 = .ok (.ifCond .eq 27, 3) := dk_153 0 27 (dk_at dksX9_byBasis_0 10 rfl rfl)
theorem dX9_byBasis_13 : decode cX9_byBasis 13 = .ok (.iload_n 2, 1) := dk_28 (dk_at dksX9_byBasis_0 13 rfl rfl)
theorem dX9_byBasis_14 : decode cX9_byBasis 14 = .ok (.iconst 0, 1) := dk_3 (dk_at dksX9_byBasis_0 14 rfl rfl)
theorem dX9_byBasis_15 : decode cX9_byBasis 15 = .ok (.aload_n 0, 1) := dk_42 (dk_at dksX9_byBasis_0 15 rfl rfl)
theorem dX9_byBasis_16 : decode cX9_byBasis 16 = .ok (.iconst 0, 1) := dk_3 (dk_at dksX9_byBasis_0 16 rfl rfl)
theorem dX9_byBasis_17 : decode cX9_byBasis 17 = .ok (.invokevirtual 174, 3) := dk_182 0 174 (dk_at dksX9_byBasis_0 17 rfl rfl)
theorem dX9_byBasis_20 : decode cX9_byBasis 20 = .ok (.iconst 1, 1) := dk_4 (dk_at dksX9_byBasis_0 20 rfl rfl)
theorem dX9_byBasis_21 : decode cX9_byBasis 21 = .ok (.isub, 1) := dk_100 (dk_at dksX9_byBasis_0 21 rfl rfl)
theorem dX9_byBasis_22 : decode cX9_byBasis 22 = .ok (.invokestatic 124, 3) := dk_184 0 124 (dk_at dksX9_byBasis_1 0 rfl rfl)
theorem dX9_byBasis_25 : decode cX9_byBasis 25 = .ok (.ifCond .eq 12, 3) := dk_153 0 12 (dk_at dksX9_byBasis_1 3 rfl rfl)
theorem dX9_byBasis_28 : decode cX9_byBasis 28 = .ok (.iload_n 3, 1) := dk_29 (dk_at dksX9_byBasis_1 6 rfl rfl)
theorem dX9_byBasis_29 : decode cX9_byBasis 29 = .ok (.iconst 0, 1) := dk_3 (dk_at dksX9_byBasis_1 7 rfl rfl)
theorem dX9_byBasis_30 : decode cX9_byBasis 30 = .ok (.iconst 1, 1) := dk_4 (dk_at dksX9_byBasis_1 8 rfl rfl)
theorem dX9_byBasis_31 : decode cX9_byBasis 31 = .ok (.invokestatic 124, 3) := dk_184 0 124 (dk_at dksX9_byBasis_1 9 rfl rfl)
theorem dX9_byBasis_34 : decode cX9_byBasis 34 = .ok (.ifCond .ne 7, 3) := dk_154 0 7 (dk_at dksX9_byBasis_1 12 rfl rfl)
theorem dX9_byBasis_37 : decode cX9_byBasis 37 = .ok (.ldc_w 326, 3) := dk_19 1 70 (dk_at dksX9_byBasis_1 15 rfl rfl)
theorem dX9_byBasis_40 : decode cX9_byBasis 40 = .ok (.ireturn, 1) := dk_172 (dk_at dksX9_byBasis_1 18 rfl rfl)
theorem dX9_byBasis_41 : decode cX9_byBasis 41 = .ok (.aload_n 0, 1) := dk_42 (dk_at dksX9_byBasis_1 19 rfl rfl)
theorem dX9_byBasis_42 : decode cX9_byBasis 42 = .ok (.iload_n 1, 1) := dk_27 (dk_at dksX9_byBasis_1 20 rfl rfl)
theorem dX9_byBasis_43 : decode cX9_byBasis 43 = .ok (.iload_n 2, 1) := dk_28 (dk_at dksX9_byBasis_1 21 rfl rfl)
theorem dX9_byBasis_44 : decode cX9_byBasis 44 = .ok (.iload_n 3, 1) := dk_29 (dk_at dksX9_byBasis_1 22 rfl rfl)
theorem dX9_byBasis_45 : decode cX9_byBasis 45 = .ok (.invokevirtual 246, 3) := dk_182 0 246 (dk_at dksX9_byBasis_2 0 rfl rfl)
theorem dX9_byBasis_48 : decode cX9_byBasis 48 = .ok (.istore 4, 2) := dk_54 4 (dk_at dksX9_byBasis_2 3 rfl rfl)
theorem dX9_byBasis_50 : decode cX9_byBasis 50 = .ok (.aload_n 0, 1) := dk_42 (dk_at dksX9_byBasis_2 5 rfl rfl)
theorem dX9_byBasis_51 : decode cX9_byBasis 51 = .ok (.iload 4, 2) := dk_21 4 (dk_at dksX9_byBasis_2 6 rfl rfl)
theorem dX9_byBasis_53 : decode cX9_byBasis 53 = .ok (.aload_n 0, 1) := dk_42 (dk_at dksX9_byBasis_2 8 rfl rfl)
theorem dX9_byBasis_54 : decode cX9_byBasis 54 = .ok (.getfield 32, 3) := dk_180 0 32 (dk_at dksX9_byBasis_2 9 rfl rfl)
theorem dX9_byBasis_57 : decode cX9_byBasis 57 = .ok (.iconst 2, 1) := dk_5 (dk_at dksX9_byBasis_2 12 rfl rfl)
theorem dX9_byBasis_58 : decode cX9_byBasis 58 = .ok (.iaload, 1) := dk_46 (dk_at dksX9_byBasis_2 13 rfl rfl)
theorem dX9_byBasis_59 : decode cX9_byBasis 59 = .ok (.iconst 4, 1) := dk_7 (dk_at dksX9_byBasis_2 14 rfl rfl)
theorem dX9_byBasis_60 : decode cX9_byBasis 60 = .ok (.idiv, 1) := dk_108 (dk_at dksX9_byBasis_2 15 rfl rfl)
theorem dX9_byBasis_61 : decode cX9_byBasis 61 = .ok (.invokevirtual 249, 3) := dk_182 0 249 (dk_at dksX9_byBasis_2 16 rfl rfl)
theorem dX9_byBasis_64 : decode cX9_byBasis 64 = .ok (.ireturn, 1) := dk_172 (dk_at dksX9_byBasis_2 19 rfl rfl)
abbrev cX9_leader : ByteArray := prog_17_method_105_code
def yX9_leader : MethodName := ⟨RX9, "leader", "(I)I"⟩
def dkwX9_leader_3 : List UInt8 := [21, 5, 62, 132, 4, 1, 167, 255, 216, 28, 172]
abbrev dktX9_leader_3 : List UInt8 := dkwX9_leader_3 ++ []
def dkwX9_leader_2 : List UInt8 := [21, 4, 27, 182, 1, 71, 54, 5, 28, 155, 0, 12, 21, 5, 29, 163, 0, 6, 167, 0, 9, 21, 4, 61]
abbrev dktX9_leader_2 : List UInt8 := dkwX9_leader_2 ++ dktX9_leader_3
def dkwX9_leader_1 : List UInt8 := [164, 0, 6, 16, 254, 172, 16, 254, 61, 3, 62, 3, 54, 4, 21, 4, 42, 180, 0, 94, 162, 0, 37, 42]
abbrev dktX9_leader_1 : List UInt8 := dkwX9_leader_1 ++ dktX9_leader_2
def dkwX9_leader_0 : List UInt8 := [42, 3, 181, 0, 49, 27, 3, 16, 15, 184, 0, 124, 154, 0, 5, 2, 172, 27, 42, 182, 0, 233]
abbrev dktX9_leader_0 : List UInt8 := dkwX9_leader_0 ++ dktX9_leader_1
theorem dksX9_leader_0 : cX9_leader.data.toList.drop 0 = dktX9_leader_0 := by decide +kernel
theorem dksX9_leader_1 : cX9_leader.data.toList.drop 22 = dktX9_leader_1 := dk_seg dksX9_leader_0 22 rfl rfl
theorem dksX9_leader_2 : cX9_leader.data.toList.drop 46 = dktX9_leader_2 := dk_seg dksX9_leader_1 24 rfl rfl
theorem dksX9_leader_3 : cX9_leader.data.toList.drop 70 = dktX9_leader_3 := dk_seg dksX9_leader_2 24 rfl rfl
theorem dX9_leader_0 : decode cX9_leader 0 = .ok (.aload_n 0, 1) := dk_42 (dk_at dksX9_leader_0 0 rfl rfl)
theorem dX9_leader_1 : decode cX9_leader 1 = .ok (.iconst 0, 1) := dk_3 (dk_at dksX9_leader_0 1 rfl rfl)
theorem dX9_leader_2 : decode cX9_leader 2 = .ok (.putfield 49, 3) := dk_181 0 49 (dk_at dksX9_leader_0 2 rfl rfl)
theorem dX9_leader_5 : decode cX9_leader 5 = .ok (.iload_n 1, 1) := dk_27 (dk_at dksX9_leader_0 5 rfl rfl)
theorem dX9_leader_6 : decode cX9_leader 6 = .ok (.iconst 0, 1) := dk_3 (dk_at dksX9_leader_0 6 rfl rfl)
theorem dX9_leader_7 : decode cX9_leader 7 = .ok (.bipush 15, 2) := dk_16 15 (dk_at dksX9_leader_0 7 rfl rfl)
theorem dX9_leader_9 : decode cX9_leader 9 = .ok (.invokestatic 124, 3) := dk_184 0 124 (dk_at dksX9_leader_0 9 rfl rfl)
theorem dX9_leader_12 : decode cX9_leader 12 = .ok (.ifCond .ne 5, 3) := dk_154 0 5 (dk_at dksX9_leader_0 12 rfl rfl)
theorem dX9_leader_15 : decode cX9_leader 15 = .ok (.iconst (-1), 1) := dk_2 (dk_at dksX9_leader_0 15 rfl rfl)
theorem dX9_leader_16 : decode cX9_leader 16 = .ok (.ireturn, 1) := dk_172 (dk_at dksX9_leader_0 16 rfl rfl)
theorem dX9_leader_17 : decode cX9_leader 17 = .ok (.iload_n 1, 1) := dk_27 (dk_at dksX9_leader_0 17 rfl rfl)
theorem dX9_leader_18 : decode cX9_leader 18 = .ok (.aload_n 0, 1) := dk_42 (dk_at dksX9_leader_0 18 rfl rfl)
theorem dX9_leader_19 : decode cX9_leader 19 = .ok (.invokevirtual 233, 3) := dk_182 0 233 (dk_at dksX9_leader_0 19 rfl rfl)
theorem dX9_leader_22 : decode cX9_leader 22 = .ok (.if_icmp .le 6, 3) := dk_164 0 6 (dk_at dksX9_leader_1 0 rfl rfl)
theorem dX9_leader_25 : decode cX9_leader 25 = .ok (.bipush (-2), 2) := dk_16 254 (dk_at dksX9_leader_1 3 rfl rfl)
theorem dX9_leader_27 : decode cX9_leader 27 = .ok (.ireturn, 1) := dk_172 (dk_at dksX9_leader_1 5 rfl rfl)
theorem dX9_leader_28 : decode cX9_leader 28 = .ok (.bipush (-2), 2) := dk_16 254 (dk_at dksX9_leader_1 6 rfl rfl)
theorem dX9_leader_30 : decode cX9_leader 30 = .ok (.istore_n 2, 1) := dk_61 (dk_at dksX9_leader_1 8 rfl rfl)
theorem dX9_leader_31 : decode cX9_leader 31 = .ok (.iconst 0, 1) := dk_3 (dk_at dksX9_leader_1 9 rfl rfl)
theorem dX9_leader_32 : decode cX9_leader 32 = .ok (.istore_n 3, 1) := dk_62 (dk_at dksX9_leader_1 10 rfl rfl)
theorem dX9_leader_33 : decode cX9_leader 33 = .ok (.iconst 0, 1) := dk_3 (dk_at dksX9_leader_1 11 rfl rfl)
theorem dX9_leader_34 : decode cX9_leader 34 = .ok (.istore 4, 2) := dk_54 4 (dk_at dksX9_leader_1 12 rfl rfl)
theorem dX9_leader_36 : decode cX9_leader 36 = .ok (.iload 4, 2) := dk_21 4 (dk_at dksX9_leader_1 14 rfl rfl)
theorem dX9_leader_38 : decode cX9_leader 38 = .ok (.aload_n 0, 1) := dk_42 (dk_at dksX9_leader_1 16 rfl rfl)
theorem dX9_leader_39 : decode cX9_leader 39 = .ok (.getfield 94, 3) := dk_180 0 94 (dk_at dksX9_leader_1 17 rfl rfl)
theorem dX9_leader_42 : decode cX9_leader 42 = .ok (.if_icmp .ge 37, 3) := dk_162 0 37 (dk_at dksX9_leader_1 20 rfl rfl)
theorem dX9_leader_45 : decode cX9_leader 45 = .ok (.aload_n 0, 1) := dk_42 (dk_at dksX9_leader_1 23 rfl rfl)
theorem dX9_leader_46 : decode cX9_leader 46 = .ok (.iload 4, 2) := dk_21 4 (dk_at dksX9_leader_2 0 rfl rfl)
theorem dX9_leader_48 : decode cX9_leader 48 = .ok (.iload_n 1, 1) := dk_27 (dk_at dksX9_leader_2 2 rfl rfl)
theorem dX9_leader_49 : decode cX9_leader 49 = .ok (.invokevirtual 327, 3) := dk_182 1 71 (dk_at dksX9_leader_2 3 rfl rfl)
theorem dX9_leader_52 : decode cX9_leader 52 = .ok (.istore 5, 2) := dk_54 5 (dk_at dksX9_leader_2 6 rfl rfl)
theorem dX9_leader_54 : decode cX9_leader 54 = .ok (.iload_n 2, 1) := dk_28 (dk_at dksX9_leader_2 8 rfl rfl)
theorem dX9_leader_55 : decode cX9_leader 55 = .ok (.ifCond .lt 12, 3) := dk_155 0 12 (dk_at dksX9_leader_2 9 rfl rfl)
theorem dX9_leader_58 : decode cX9_leader 58 = .ok (.iload 5, 2) := dk_21 5 (dk_at dksX9_leader_2 12 rfl rfl)
theorem dX9_leader_60 : decode cX9_leader 60 = .ok (.iload_n 3, 1) := dk_29 (dk_at dksX9_leader_2 14 rfl rfl)
theorem dX9_leader_61 : decode cX9_leader 61 = .ok (.if_icmp .gt 6, 3) := dk_163 0 6 (dk_at dksX9_leader_2 15 rfl rfl)
theorem dX9_leader_64 : decode cX9_leader 64 = .ok (.goto 9, 3) := dk_167 0 9 (dk_at dksX9_leader_2 18 rfl rfl)
theorem dX9_leader_67 : decode cX9_leader 67 = .ok (.iload 4, 2) := dk_21 4 (dk_at dksX9_leader_2 21 rfl rfl)
theorem dX9_leader_69 : decode cX9_leader 69 = .ok (.istore_n 2, 1) := dk_61 (dk_at dksX9_leader_2 23 rfl rfl)
theorem dX9_leader_70 : decode cX9_leader 70 = .ok (.iload 5, 2) := dk_21 5 (dk_at dksX9_leader_3 0 rfl rfl)
theorem dX9_leader_72 : decode cX9_leader 72 = .ok (.istore_n 3, 1) := dk_62 (dk_at dksX9_leader_3 2 rfl rfl)
theorem dX9_leader_73 : decode cX9_leader 73 = .ok (.iinc 4 1, 3) := dk_132 4 1 (dk_at dksX9_leader_3 3 rfl rfl)
theorem dX9_leader_76 : decode cX9_leader 76 = .ok (.goto (-40), 3) := dk_167 255 216 (dk_at dksX9_leader_3 6 rfl rfl)
theorem dX9_leader_79 : decode cX9_leader 79 = .ok (.iload_n 2, 1) := dk_28 (dk_at dksX9_leader_3 9 rfl rfl)
theorem dX9_leader_80 : decode cX9_leader 80 = .ok (.ireturn, 1) := dk_172 (dk_at dksX9_leader_3 10 rfl rfl)
abbrev cX9_rise : ByteArray := prog_17_method_106_code
def yX9_rise : MethodName := ⟨RX9, "rise", "(I)I"⟩
def dkwX9_rise_4 : List UInt8 := [28, 172]
abbrev dktX9_rise_4 : List UInt8 := dkwX9_rise_4 ++ []
def dkwX9_rise_3 : List UInt8 := [4, 96, 167, 0, 4, 4, 62, 29, 28, 164, 0, 7, 29, 167, 0, 4, 28, 61, 132, 4, 1, 167, 255, 185]
abbrev dktX9_rise_3 : List UInt8 := dkwX9_rise_3 ++ dktX9_rise_4
def dkwX9_rise_2 : List UInt8 := [182, 0, 174, 42, 17, 6, 9, 16, 64, 27, 104, 96, 21, 4, 96, 4, 100, 182, 0, 174, 164, 0, 9, 29]
abbrev dktX9_rise_2 : List UInt8 := dkwX9_rise_2 ++ dktX9_rise_3
def dkwX9_rise_1 : List UInt8 := [42, 3, 182, 0, 174, 162, 0, 67, 29, 158, 0, 44, 42, 17, 6, 9, 16, 64, 27, 104, 96, 21, 4, 96]
abbrev dktX9_rise_1 : List UInt8 := dkwX9_rise_1 ++ dktX9_rise_2
def dkwX9_rise_0 : List UInt8 := [42, 3, 181, 0, 49, 42, 27, 182, 1, 40, 154, 0, 5, 2, 172, 3, 61, 3, 62, 3, 54, 4, 21, 4]
abbrev dktX9_rise_0 : List UInt8 := dkwX9_rise_0 ++ dktX9_rise_1
theorem dksX9_rise_0 : cX9_rise.data.toList.drop 0 = dktX9_rise_0 := by decide +kernel
theorem dksX9_rise_1 : cX9_rise.data.toList.drop 24 = dktX9_rise_1 := dk_seg dksX9_rise_0 24 rfl rfl
theorem dksX9_rise_2 : cX9_rise.data.toList.drop 48 = dktX9_rise_2 := dk_seg dksX9_rise_1 24 rfl rfl
theorem dksX9_rise_3 : cX9_rise.data.toList.drop 72 = dktX9_rise_3 := dk_seg dksX9_rise_2 24 rfl rfl
theorem dksX9_rise_4 : cX9_rise.data.toList.drop 96 = dktX9_rise_4 := dk_seg dksX9_rise_3 24 rfl rfl
theorem dX9_rise_0 : decode cX9_rise 0 = .ok (.aload_n 0, 1) := dk_42 (dk_at dksX9_rise_0 0 rfl rfl)
theorem dX9_rise_1 : decode cX9_rise 1 = .ok (.iconst 0, 1) := dk_3 (dk_at dksX9_rise_0 1 rfl rfl)
theorem dX9_rise_2 : decode cX9_rise 2 = .ok (.putfield 49, 3) := dk_181 0 49 (dk_at dksX9_rise_0 2 rfl rfl)
theorem dX9_rise_5 : decode cX9_rise 5 = .ok (.aload_n 0, 1) := dk_42 (dk_at dksX9_rise_0 5 rfl rfl)
theorem dX9_rise_6 : decode cX9_rise 6 = .ok (.iload_n 1, 1) := dk_27 (dk_at dksX9_rise_0 6 rfl rfl)
theorem dX9_rise_7 : decode cX9_rise 7 = .ok (.invokevirtual 296, 3) := dk_182 1 40 (dk_at dksX9_rise_0 7 rfl rfl)
theorem dX9_rise_10 : decode cX9_rise 10 = .ok (.ifCond .ne 5, 3) := dk_154 0 5 (dk_at dksX9_rise_0 10 rfl rfl)
theorem dX9_rise_13 : decode cX9_rise 13 = .ok (.iconst (-1), 1) := dk_2 (dk_at dksX9_rise_0 13 rfl rfl)
theorem dX9_rise_14 : decode cX9_rise 14 = .ok (.ireturn, 1) := dk_172 (dk_at dksX9_rise_0 14 rfl rfl)
theorem dX9_rise_15 : decode cX9_rise 15 = .ok (.iconst 0, 1) := dk_3 (dk_at dksX9_rise_0 15 rfl rfl)
theorem dX9_rise_16 : decode cX9_rise 16 = .ok (.istore_n 2, 1) := dk_61 (dk_at dksX9_rise_0 16 rfl rfl)
theorem dX9_rise_17 : decode cX9_rise 17 = .ok (.iconst 0, 1) := dk_3 (dk_at dksX9_rise_0 17 rfl rfl)
theorem dX9_rise_18 : decode cX9_rise 18 = .ok (.istore_n 3, 1) := dk_62 (dk_at dksX9_rise_0 18 rfl rfl)
theorem dX9_rise_19 : decode cX9_rise 19 = .ok (.iconst 0, 1) := dk_3 (dk_at dksX9_rise_0 19 rfl rfl)
theorem dX9_rise_20 : decode cX9_rise 20 = .ok (.istore 4, 2) := dk_54 4 (dk_at dksX9_rise_0 20 rfl rfl)
theorem dX9_rise_22 : decode cX9_rise 22 = .ok (.iload 4, 2) := dk_21 4 (dk_at dksX9_rise_0 22 rfl rfl)
theorem dX9_rise_24 : decode cX9_rise 24 = .ok (.aload_n 0, 1) := dk_42 (dk_at dksX9_rise_1 0 rfl rfl)
theorem dX9_rise_25 : decode cX9_rise 25 = .ok (.iconst 0, 1) := dk_3 (dk_at dksX9_rise_1 1 rfl rfl)
theorem dX9_rise_26 : decode cX9_rise 26 = .ok (.invokevirtual 174, 3) := dk_182 0 174 (dk_at dksX9_rise_1 2 rfl rfl)
theorem dX9_rise_29 : decode cX9_rise 29 = .ok (.if_icmp .ge 67, 3) := dk_162 0 67 (dk_at dksX9_rise_1 5 rfl rfl)
theorem dX9_rise_32 : decode cX9_rise 32 = .ok (.iload_n 3, 1) := dk_29 (dk_at dksX9_rise_1 8 rfl rfl)
theorem dX9_rise_33 : decode cX9_rise 33 = .ok (.ifCond .le 44, 3) := dk_158 0 44 (dk_at dksX9_rise_1 9 rfl rfl)
theorem dX9_rise_36 : decode cX9_rise 36 = .ok (.aload_n 0, 1) := dk_42 (dk_at dksX9_rise_1 12 rfl rfl)
theorem dX9_rise_37 : decode cX9_rise 37 = .ok (.sipush 1545, 3) := dk_17 6 9 (dk_at dksX9_rise_1 13 rfl rfl)
theorem dX9_rise_40 : decode cX9_rise 40 = .ok (.bipush 64, 2) := dk_16 64 (dk_at dksX9_rise_1 16 rfl rfl)
theorem dX9_rise_42 : decode cX9_rise 42 = .ok (.iload_n 1, 1) := dk_27 (dk_at dksX9_rise_1 18 rfl rfl)
theorem dX9_rise_43 : decode cX9_rise 43 = .ok (.imul, 1) := dk_104 (dk_at dksX9_rise_1 19 rfl rfl)
theorem dX9_rise_44 : decode cX9_rise 44 = .ok (.iadd, 1) := dk_96 (dk_at dksX9_rise_1 20 rfl rfl)
theorem dX9_rise_45 : decode cX9_rise 45 = .ok (.iload 4, 2) := dk_21 4 (dk_at dksX9_rise_1 21 rfl rfl)
theorem dX9_rise_47 : decode cX9_rise 47 = .ok (.iadd, 1) := dk_96 (dk_at dksX9_rise_1 23 rfl rfl)
theorem dX9_rise_48 : decode cX9_rise 48 = .ok (.invokevirtual 174, 3) := dk_182 0 174 (dk_at dksX9_rise_2 0 rfl rfl)
theorem dX9_rise_51 : decode cX9_rise 51 = .ok (.aload_n 0, 1) := dk_42 (dk_at dksX9_rise_2 3 rfl rfl)
theorem dX9_rise_52 : decode cX9_rise 52 = .ok (.sipush 1545, 3) := dk_17 6 9 (dk_at dksX9_rise_2 4 rfl rfl)
theorem dX9_rise_55 : decode cX9_rise 55 = .ok (.bipush 64, 2) := dk_16 64 (dk_at dksX9_rise_2 7 rfl rfl)
theorem dX9_rise_57 : decode cX9_rise 57 = .ok (.iload_n 1, 1) := dk_27 (dk_at dksX9_rise_2 9 rfl rfl)
theorem dX9_rise_58 : decode cX9_rise 58 = .ok (.imul, 1) := dk_104 (dk_at dksX9_rise_2 10 rfl rfl)
theorem dX9_rise_59 : decode cX9_rise 59 = .ok (.iadd, 1) := dk_96 (dk_at dksX9_rise_2 11 rfl rfl)
theorem dX9_rise_60 : decode cX9_rise 60 = .ok (.iload 4, 2) := dk_21 4 (dk_at dksX9_rise_2 12 rfl rfl)
theorem dX9_rise_62 : decode cX9_rise 62 = .ok (.iadd, 1) := dk_96 (dk_at dksX9_rise_2 14 rfl rfl)
theorem dX9_rise_63 : decode cX9_rise 63 = .ok (.iconst 1, 1) := dk_4 (dk_at dksX9_rise_2 15 rfl rfl)
theorem dX9_rise_64 : decode cX9_rise 64 = .ok (.isub, 1) := dk_100 (dk_at dksX9_rise_2 16 rfl rfl)
theorem dX9_rise_65 : decode cX9_rise 65 = .ok (.invokevirtual 174, 3) := dk_182 0 174 (dk_at dksX9_rise_2 17 rfl rfl)
theorem dX9_rise_68 : decode cX9_rise 68 = .ok (.if_icmp .le 9, 3) := dk_164 0 9 (dk_at dksX9_rise_2 20 rfl rfl)
theorem dX9_rise_71 : decode cX9_rise 71 = .ok (.iload_n 3, 1) := dk_29 (dk_at dksX9_rise_2 23 rfl rfl)
theorem dX9_rise_72 : decode cX9_rise 72 = .ok (.iconst 1, 1) := dk_4 (dk_at dksX9_rise_3 0 rfl rfl)
theorem dX9_rise_73 : decode cX9_rise 73 = .ok (.iadd, 1) := dk_96 (dk_at dksX9_rise_3 1 rfl rfl)
theorem dX9_rise_74 : decode cX9_rise 74 = .ok (.goto 4, 3) := dk_167 0 4 (dk_at dksX9_rise_3 2 rfl rfl)
theorem dX9_rise_77 : decode cX9_rise 77 = .ok (.iconst 1, 1) := dk_4 (dk_at dksX9_rise_3 5 rfl rfl)
theorem dX9_rise_78 : decode cX9_rise 78 = .ok (.istore_n 3, 1) := dk_62 (dk_at dksX9_rise_3 6 rfl rfl)
theorem dX9_rise_79 : decode cX9_rise 79 = .ok (.iload_n 3, 1) := dk_29 (dk_at dksX9_rise_3 7 rfl rfl)
theorem dX9_rise_80 : decode cX9_rise 80 = .ok (.iload_n 2, 1) := dk_28 (dk_at dksX9_rise_3 8 rfl rfl)
theorem dX9_rise_81 : decode cX9_rise 81 = .ok (.if_icmp .le 7, 3) := dk_164 0 7 (dk_at dksX9_rise_3 9 rfl rfl)
theorem dX9_rise_84 : decode cX9_rise 84 = .ok (.iload_n 3, 1) := dk_29 (dk_at dksX9_rise_3 12 rfl rfl)
theorem dX9_rise_85 : decode cX9_rise 85 = .ok (.goto 4, 3) := dk_167 0 4 (dk_at dksX9_rise_3 13 rfl rfl)
theorem dX9_rise_88 : decode cX9_rise 88 = .ok (.iload_n 2, 1) := dk_28 (dk_at dksX9_rise_3 16 rfl rfl)
theorem dX9_rise_89 : decode cX9_rise 89 = .ok (.istore_n 2, 1) := dk_61 (dk_at dksX9_rise_3 17 rfl rfl)
theorem dX9_rise_90 : decode cX9_rise 90 = .ok (.iinc 4 1, 3) := dk_132 4 1 (dk_at dksX9_rise_3 18 rfl rfl)
theorem dX9_rise_93 : decode cX9_rise 93 = .ok (.goto (-71), 3) := dk_167 255 185 (dk_at dksX9_rise_3 21 rfl rfl)
theorem dX9_rise_96 : decode cX9_rise 96 = .ok (.iload_n 2, 1) := dk_28 (dk_at dksX9_rise_4 0 rfl rfl)
theorem dX9_rise_97 : decode cX9_rise 97 = .ok (.ireturn, 1) := dk_172 (dk_at dksX9_rise_4 1 rfl rfl)
abbrev cX9_need : ByteArray := prog_17_method_107_code
def yX9_need : MethodName := ⟨RX9, "need", "(II)I"⟩
def dkwX9_need_6 : List UInt8 := [167, 0, 6, 22, 7, 136, 172]
abbrev dktX9_need_6 : List UInt8 := dkwX9_need_6 ++ []
def dkwX9_need_5 : List UInt8 := [55, 7, 167, 0, 7, 22, 9, 55, 5, 167, 255, 205, 22, 7, 20, 1, 74, 148, 154, 0, 8, 16, 254]
abbrev dktX9_need_5 : List UInt8 := dkwX9_need_5 ++ dktX9_need_6
def dkwX9_need_4 : List UInt8 := [55, 9, 42, 180, 0, 39, 3, 33, 22, 9, 97, 80, 42, 27, 182, 0, 237, 28, 161, 0, 10, 22, 9]
abbrev dktX9_need_4 : List UInt8 := dkwX9_need_4 ++ dktX9_need_5
def dkwX9_need_3 : List UInt8 := [20, 1, 74, 55, 7, 22, 7, 22, 5, 101, 10, 148, 158, 0, 47, 22, 5, 22, 7, 97, 20, 0, 199, 109]
abbrev dktX9_need_3 : List UInt8 := dkwX9_need_3 ++ dktX9_need_4
def dkwX9_need_2 : List UInt8 := [182, 0, 230, 42, 180, 0, 39, 3, 47, 66, 42, 27, 182, 0, 237, 28, 161, 0, 5, 3, 172, 9, 55, 5]
abbrev dktX9_need_2 : List UInt8 := dkwX9_need_2 ++ dktX9_need_3
def dkwX9_need_1 : List UInt8 := [154, 0, 5, 2, 172, 42, 27, 4, 182, 0, 115, 153, 0, 6, 16, 254, 172, 42, 27, 42, 182, 0, 233]
abbrev dktX9_need_1 : List UInt8 := dkwX9_need_1 ++ dktX9_need_2
def dkwX9_need_0 : List UInt8 := [42, 3, 181, 0, 49, 42, 27, 182, 1, 40, 153, 0, 17, 28, 3, 42, 180, 0, 32, 4, 46, 184, 0, 124]
abbrev dktX9_need_0 : List UInt8 := dkwX9_need_0 ++ dktX9_need_1
theorem dksX9_need_0 : cX9_need.data.toList.drop 0 = dktX9_need_0 := by decide +kernel
theorem dksX9_need_1 : cX9_need.data.toList.drop 24 = dktX9_need_1 := dk_seg dksX9_need_0 24 rfl rfl
theorem dksX9_need_2 : cX9_need.data.toList.drop 47 = dktX9_need_2 := dk_seg dksX9_need_1 23 rfl rfl
theorem dksX9_need_3 : cX9_need.data.toList.drop 71 = dktX9_need_3 := dk_seg dksX9_need_2 24 rfl rfl
theorem dksX9_need_4 : cX9_need.data.toList.drop 95 = dktX9_need_4 := dk_seg dksX9_need_3 24 rfl rfl
theorem dksX9_need_5 : cX9_need.data.toList.drop 118 = dktX9_need_5 := dk_seg dksX9_need_4 23 rfl rfl
theorem dksX9_need_6 : cX9_need.data.toList.drop 141 = dktX9_need_6 := dk_seg dksX9_need_5 23 rfl rfl
theorem dX9_need_0 : decode cX9_need 0 = .ok (.aload_n 0, 1) := dk_42 (dk_at dksX9_need_0 0 rfl rfl)
theorem dX9_need_1 : decode cX9_need 1 = .ok (.iconst 0, 1) := dk_3 (dk_at dksX9_need_0 1 rfl rfl)
theorem dX9_need_2 : decode cX9_need 2 = .ok (.putfield 49, 3) := dk_181 0 49 (dk_at dksX9_need_0 2 rfl rfl)
theorem dX9_need_5 : decode cX9_need 5 = .ok (.aload_n 0, 1) := dk_42 (dk_at dksX9_need_0 5 rfl rfl)
theorem dX9_need_6 : decode cX9_need 6 = .ok (.iload_n 1, 1) := dk_27 (dk_at dksX9_need_0 6 rfl rfl)
theorem dX9_need_7 : decode cX9_need 7 = .ok (.invokevirtual 296, 3) := dk_182 1 40 (dk_at dksX9_need_0 7 rfl rfl)
theorem dX9_need_10 : decode cX9_need 10 = .ok (.ifCond .eq 17, 3) := dk_153 0 17 (dk_at dksX9_need_0 10 rfl rfl)
theorem dX9_need_13 : decode cX9_need 13 = .ok (.iload_n 2, 1) := dk_28 (dk_at dksX9_need_0 13 rfl rfl)
theorem dX9_need_14 : decode cX9_need 14 = .ok (.iconst 0, 1) := dk_3 (dk_at dksX9_need_0 14 rfl rfl)
theorem dX9_need_15 : decode cX9_need 15 = .ok (.aload_n 0, 1) := dk_42 (dk_at dksX9_need_0 15 rfl rfl)
theorem dX9_need_16 : decode cX9_need 16 = .ok (.getfield 32, 3) := dk_180 0 32 (dk_at dksX9_need_0 16 rfl rfl)
theorem dX9_need_19 : decode cX9_need 19 = .ok (.iconst 1, 1) := dk_4 (dk_at dksX9_need_0 19 rfl rfl)
theorem dX9_need_20 : decode cX9_need 20 = .ok (.iaload, 1) := dk_46 (dk_at dksX9_need_0 20 rfl rfl)
theorem dX9_need_21 : decode cX9_need 21 = .ok (.invokestatic 124, 3) := dk_184 0 124 (dk_at dksX9_need_0 21 rfl rfl)
theorem dX9_need_24 : decode cX9_need 24 = .ok (.ifCond .ne 5, 3) := dk_154 0 5 (dk_at dksX9_need_1 0 rfl rfl)
theorem dX9_need_27 : decode cX9_need 27 = .ok (.iconst (-1), 1) := dk_2 (dk_at dksX9_need_1 3 rfl rfl)
theorem dX9_need_28 : decode cX9_need 28 = .ok (.ireturn, 1) := dk_172 (dk_at dksX9_need_1 4 rfl rfl)
theorem dX9_need_29 : decode cX9_need 29 = .ok (.aload_n 0, 1) := dk_42 (dk_at dksX9_need_1 5 rfl rfl)
theorem dX9_need_30 : decode cX9_need 30 = .ok (.iload_n 1, 1) := dk_27 (dk_at dksX9_need_1 6 rfl rfl)
theorem dX9_need_31 : decode cX9_need 31 = .ok (.iconst 1, 1) := dk_4 (dk_at dksX9_need_1 7 rfl rfl)
theorem dX9_need_32 : decode cX9_need 32 = .ok (.invokevirtual 115, 3) := dk_182 0 115 (dk_at dksX9_need_1 8 rfl rfl)
theorem dX9_need_35 : decode cX9_need 35 = .ok (.ifCond .eq 6, 3) := dk_153 0 6 (dk_at dksX9_need_1 11 rfl rfl)
theorem dX9_need_38 : decode cX9_need 38 = .ok (.bipush (-2), 2) := dk_16 254 (dk_at dksX9_need_1 14 rfl rfl)
theorem dX9_need_40 : decode cX9_need 40 = .ok (.ireturn, 1) := dk_172 (dk_at dksX9_need_1 16 rfl rfl)
theorem dX9_need_41 : decode cX9_need 41 = .ok (.aload_n 0, 1) := dk_42 (dk_at dksX9_need_1 17 rfl rfl)
theorem dX9_need_42 : decode cX9_need 42 = .ok (.iload_n 1, 1) := dk_27 (dk_at dksX9_need_1 18 rfl rfl)
theorem dX9_need_43 : decode cX9_need 43 = .ok (.aload_n 0, 1) := dk_42 (dk_at dksX9_need_1 19 rfl rfl)
theorem dX9_need_44 : decode cX9_need 44 = .ok (.invokevirtual 233, 3) := dk_182 0 233 (dk_at dksX9_need_1 20 rfl rfl)
theorem dX9_need_47 : decode cX9_need 47 = .ok (.invokevirtual 230, 3) := dk_182 0 230 (dk_at dksX9_need_2 0 rfl rfl)
theorem dX9_need_50 : decode cX9_need 50 = .ok (.aload_n 0, 1) := dk_42 (dk_at dksX9_need_2 3 rfl rfl)
theorem dX9_need_51 : decode cX9_need 51 = .ok (.getfield 39, 3) := dk_180 0 39 (dk_at dksX9_need_2 4 rfl rfl)
theorem dX9_need_54 : decode cX9_need 54 = .ok (.iconst 0, 1) := dk_3 (dk_at dksX9_need_2 7 rfl rfl)
theorem dX9_need_55 : decode cX9_need 55 = .ok (.laload, 1) := dk_47 (dk_at dksX9_need_2 8 rfl rfl)
theorem dX9_need_56 : decode cX9_need 56 = .ok (.lstore_n 3, 1) := dk_66 (dk_at dksX9_need_2 9 rfl rfl)
theorem dX9_need_57 : decode cX9_need 57 = .ok (.aload_n 0, 1) := dk_42 (dk_at dksX9_need_2 10 rfl rfl)
theorem dX9_need_58 : decode cX9_need 58 = .ok (.iload_n 1, 1) := dk_27 (dk_at dksX9_need_2 11 rfl rfl)
theorem dX9_need_59 : decode cX9_need 59 = .ok (.invokevirtual 237, 3) := dk_182 0 237 (dk_at dksX9_need_2 12 rfl rfl)
theorem dX9_need_62 : decode cX9_need 62 = .ok (.iload_n 2, 1) := dk_28 (dk_at dksX9_need_2 15 rfl rfl)
theorem dX9_need_63 : decode cX9_need 63 = .ok (.if_icmp .lt 5, 3) := dk_161 0 5 (dk_at dksX9_need_2 16 rfl rfl)
theorem dX9_need_66 : decode cX9_need 66 = .ok (.iconst 0, 1) := dk_3 (dk_at dksX9_need_2 19 rfl rfl)
theorem dX9_need_67 : decode cX9_need 67 = .ok (.ireturn, 1) := dk_172 (dk_at dksX9_need_2 20 rfl rfl)
theorem dX9_need_68 : decode cX9_need 68 = .ok (.lconst 0, 1) := dk_9 (dk_at dksX9_need_2 21 rfl rfl)
theorem dX9_need_69 : decode cX9_need 69 = .ok (.lstore 5, 2) := dk_55 5 (dk_at dksX9_need_2 22 rfl rfl)
theorem dX9_need_71 : decode cX9_need 71 = .ok (.ldc2_w 330, 3) := dk_20 1 74 (dk_at dksX9_need_3 0 rfl rfl)
theorem dX9_need_74 : decode cX9_need 74 = .ok (.lstore 7, 2) := dk_55 7 (dk_at dksX9_need_3 3 rfl rfl)
theorem dX9_need_76 : decode cX9_need 76 = .ok (.lload 7, 2) := dk_22 7 (dk_at dksX9_need_3 5 rfl rfl)
theorem dX9_need_78 : decode cX9_need 78 = .ok (.lload 5, 2) := dk_22 5 (dk_at dksX9_need_3 7 rfl rfl)
theorem dX9_need_80 : decode cX9_need 80 = .ok (.lsub, 1) := dk_101 (dk_at dksX9_need_3 9 rfl rfl)
theorem dX9_need_81 : decode cX9_need 81 = .ok (.lconst 1, 1) := dk_10 (dk_at dksX9_need_3 10 rfl rfl)
theorem dX9_need_82 : decode cX9_need 82 = .ok (.lcmp, 1) := dk_148 (dk_at dksX9_need_3 11 rfl rfl)
theorem dX9_need_83 : decode cX9_need 83 = .ok (.ifCond .le 47, 3) := dk_158 0 47 (dk_at dksX9_need_3 12 rfl rfl)
theorem dX9_need_86 : decode cX9_need 86 = .ok (.lload 5, 2) := dk_22 5 (dk_at dksX9_need_3 15 rfl rfl)
theorem dX9_need_88 : decode cX9_need 88 = .ok (.lload 7, 2) := dk_22 7 (dk_at dksX9_need_3 17 rfl rfl)
theorem dX9_need_90 : decode cX9_need 90 = .ok (.ladd, 1) := dk_97 (dk_at dksX9_need_3 19 rfl rfl)
theorem dX9_need_91 : decode cX9_need 91 = .ok (.ldc2_w 199, 3) := dk_20 0 199 (dk_at dksX9_need_3 20 rfl rfl)
theorem dX9_need_94 : decode cX9_need 94 = .ok (.ldiv, 1) := dk_109 (dk_at dksX9_need_3 23 rfl rfl)
theorem dX9_need_95 : decode cX9_need 95 = .ok (.lstore 9, 2) := dk_55 9 (dk_at dksX9_need_4 0 rfl rfl)
theorem dX9_need_97 : decode cX9_need 97 = .ok (.aload_n 0, 1) := dk_42 (dk_at dksX9_need_4 2 rfl rfl)
theorem dX9_need_98 : decode cX9_need 98 = .ok (.getfield 39, 3) := dk_180 0 39 (dk_at dksX9_need_4 3 rfl rfl)
theorem dX9_need_101 : decode cX9_need 101 = .ok (.iconst 0, 1) := dk_3 (dk_at dksX9_need_4 6 rfl rfl)
theorem dX9_need_102 : decode cX9_need 102 = .ok (.lload_n 3, 1) := dk_33 (dk_at dksX9_need_4 7 rfl rfl)
theorem dX9_need_103 : decode cX9_need 103 = .ok (.lload 9, 2) := dk_22 9 (dk_at dksX9_need_4 8 rfl rfl)
theorem dX9_need_105 : decode cX9_need 105 = .ok (.ladd, 1) := dk_97 (dk_at dksX9_need_4 10 rfl rfl)
theorem dX9_need_106 : decode cX9_need 106 = .ok (.lastore, 1) := dk_80 (dk_at dksX9_need_4 11 rfl rfl)
theorem dX9_need_107 : decode cX9_need 107 = .ok (.aload_n 0, 1) := dk_42 (dk_at dksX9_need_4 12 rfl rfl)
theorem dX9_need_108 : decode cX9_need 108 = .ok (.iload_n 1, 1) := dk_27 (dk_at dksX9_need_4 13 rfl rfl)
theorem dX9_need_109 : decode cX9_need 109 = .ok (.invokevirtual 237, 3) := dk_182 0 237 (dk_at dksX9_need_4 14 rfl rfl)
theorem dX9_need_112 : decode cX9_need 112 = .ok (.iload_n 2, 1) := dk_28 (dk_at dksX9_need_4 17 rfl rfl)
theorem dX9_need_113 : decode cX9_need 113 = .ok (.if_icmp .lt 10, 3) := dk_161 0 10 (dk_at dksX9_need_4 18 rfl rfl)
theorem dX9_need_116 : decode cX9_need 116 = .ok (.lload 9, 2) := dk_22 9 (dk_at dksX9_need_4 21 rfl rfl)
theorem dX9_need_118 : decode cX9_need 118 = .ok (.lstore 7, 2) := dk_55 7 (dk_at dksX9_need_5 0 rfl rfl)
theorem dX9_need_120 : decode cX9_need 120 = .ok (.goto 7, 3) := dk_167 0 7 (dk_at dksX9_need_5 2 rfl rfl)
theorem dX9_need_123 : decode cX9_need 123 = .ok (.lload 9, 2) := dk_22 9 (dk_at dksX9_need_5 5 rfl rfl)
theorem dX9_need_125 : decode cX9_need 125 = .ok (.lstore 5, 2) := dk_55 5 (dk_at dksX9_need_5 7 rfl rfl)
theorem dX9_need_127 : decode cX9_need 127 = .ok (.goto (-51), 3) := dk_167 255 205 (dk_at dksX9_need_5 9 rfl rfl)
theorem dX9_need_130 : decode cX9_need 130 = .ok (.lload 7, 2) := dk_22 7 (dk_at dksX9_need_5 12 rfl rfl)
theorem dX9_need_132 : decode cX9_need 132 = .ok (.ldc2_w 330, 3) := dk_20 1 74 (dk_at dksX9_need_5 14 rfl rfl)
theorem dX9_need_135 : decode cX9_need 135 = .ok (.lcmp, 1) := dk_148 (dk_at dksX9_need_5 17 rfl rfl)
theorem dX9_need_136 : decode cX9_need 136 = .ok (.ifCond .ne 8, 3) := dk_154 0 8 (dk_at dksX9_need_5 18 rfl rfl)
theorem dX9_need_139 : decode cX9_need 139 = .ok (.bipush (-2), 2) := dk_16 254 (dk_at dksX9_need_5 21 rfl rfl)
theorem dX9_need_141 : decode cX9_need 141 = .ok (.goto 6, 3) := dk_167 0 6 (dk_at dksX9_need_6 0 rfl rfl)
theorem dX9_need_144 : decode cX9_need 144 = .ok (.lload 7, 2) := dk_22 7 (dk_at dksX9_need_6 3 rfl rfl)
theorem dX9_need_146 : decode cX9_need 146 = .ok (.l2i, 1) := dk_136 (dk_at dksX9_need_6 5 rfl rfl)
theorem dX9_need_147 : decode cX9_need 147 = .ok (.ireturn, 1) := dk_172 (dk_at dksX9_need_6 6 rfl rfl)
abbrev cX9_room : ByteArray := prog_17_method_108_code
def yX9_room : MethodName := ⟨RX9, "room", "(II)I"⟩
def dkwX9_room_4 : List UInt8 := [167, 255, 207, 17, 39, 15, 172]
abbrev dktX9_room_4 : List UInt8 := dkwX9_room_4 ++ []
def dkwX9_room_3 : List UInt8 := [42, 180, 0, 32, 5, 46, 182, 0, 249, 87, 42, 180, 0, 225, 154, 0, 7, 29, 4, 100, 172, 132, 3, 1]
abbrev dktX9_room_3 : List UInt8 := dkwX9_room_3 ++ dktX9_room_4
def dkwX9_room_2 : List UInt8 := [17, 39, 16, 162, 0, 48, 42, 180, 0, 39, 5, 28, 96, 92, 47, 10, 97, 80, 42, 42, 27, 182, 0, 237]
abbrev dktX9_room_2 : List UInt8 := dkwX9_room_2 ++ dktX9_room_3
def dkwX9_room_1 : List UInt8 := [42, 27, 42, 182, 0, 233, 182, 1, 71, 87, 42, 180, 0, 225, 154, 0, 6, 16, 254, 172, 4, 62, 29]
abbrev dktX9_room_1 : List UInt8 := dkwX9_room_1 ++ dktX9_room_2
def dkwX9_room_0 : List UInt8 := [42, 3, 181, 0, 49, 42, 27, 182, 1, 40, 153, 0, 12, 28, 3, 5, 184, 0, 124, 154, 0, 5, 2, 172]
abbrev dktX9_room_0 : List UInt8 := dkwX9_room_0 ++ dktX9_room_1
theorem dksX9_room_0 : cX9_room.data.toList.drop 0 = dktX9_room_0 := by decide +kernel
theorem dksX9_room_1 : cX9_room.data.toList.drop 24 = dktX9_room_1 := dk_seg dksX9_room_0 24 rfl rfl
theorem dksX9_room_2 : cX9_room.data.toList.drop 47 = dktX9_room_2 := dk_seg dksX9_room_1 23 rfl rfl
theorem dksX9_room_3 : cX9_room.data.toList.drop 71 = dktX9_room_3 := dk_seg dksX9_room_2 24 rfl rfl
theorem dksX9_room_4 : cX9_room.data.toList.drop 95 = dktX9_room_4 := dk_seg dksX9_room_3 24 rfl rfl
theorem dX9_room_0 : decode cX9_room 0 = .ok (.aload_n 0, 1) := dk_42 (dk_at dksX9_room_0 0 rfl rfl)
theorem dX9_room_1 : decode cX9_room 1 = .ok (.iconst 0, 1) := dk_3 (dk_at dksX9_room_0 1 rfl rfl)
theorem dX9_room_2 : decode cX9_room 2 = .ok (.putfield 49, 3) := dk_181 0 49 (dk_at dksX9_room_0 2 rfl rfl)
theorem dX9_room_5 : decode cX9_room 5 = .ok (.aload_n 0, 1) := dk_42 (dk_at dksX9_room_0 5 rfl rfl)
theorem dX9_room_6 : decode cX9_room 6 = .ok (.iload_n 1, 1) := dk_27 (dk_at dksX9_room_0 6 rfl rfl)
theorem dX9_room_7 : decode cX9_room 7 = .ok (.invokevirtual 296, 3) := dk_182 1 40 (dk_at dksX9_room_0 7 rfl rfl)
theorem dX9_room_10 : decode cX9_room 10 = .ok (.ifCond .eq 12, 3) := dk_153 0 12 (dk_at dksX9_room_0 10 rfl rfl)
theorem dX9_room_13 : decode cX9_room 13 = .ok (.iload_n 2, 1) := dk_28 (dk_at dksX9_room_0 13 rfl rfl)
theorem dX9_room_14 : decode cX9_room 14 = .ok (.iconst 0, 1) := dk_3 (dk_at dksX9_room_0 14 rfl rfl)
theorem dX9_room_15 : decode cX9_room 15 = .ok (.iconst 2, 1) := dk_5 (dk_at dksX9_room_0 15 rfl rfl)
theorem dX9_room_16 : decode cX9_room 16 = .ok (.invokestatic 124, 3) := dk_184 0 124 (dk_at dksX9_room_0 16 rfl rfl)
theorem dX9_room_19 : decode cX9_room 19 = .ok (.ifCond .ne 5, 3) := dk_154 0 5 (dk_at dksX9_room_0 19 rfl rfl)
theorem dX9_room_22 : decode cX9_room 22 = .ok (.iconst (-1), 1) := dk_2 (dk_at dksX9_room_0 22 rfl rfl)
theorem dX9_room_23 : decode cX9_room 23 = .ok (.ireturn, 1) := dk_172 (dk_at dksX9_room_0 23 rfl rfl)
theorem dX9_room_24 : decode cX9_room 24 = .ok (.aload_n 0, 1) := dk_42 (dk_at dksX9_room_1 0 rfl rfl)
theorem dX9_room_25 : decode cX9_room 25 = .ok (.iload_n 1, 1) := dk_27 (dk_at dksX9_room_1 1 rfl rfl)
theorem dX9_room_26 : decode cX9_room 26 = .ok (.aload_n 0, 1) := dk_42 (dk_at dksX9_room_1 2 rfl rfl)
theorem dX9_room_27 : decode cX9_room 27 = .ok (.invokevirtual 233, 3) := dk_182 0 233 (dk_at dksX9_room_1 3 rfl rfl)
theorem dX9_room_30 : decode cX9_room 30 = .ok (.invokevirtual 327, 3) := dk_182 1 71 (dk_at dksX9_room_1 6 rfl rfl)
theorem dX9_room_33 : decode cX9_room 33 = .ok (.pop, 1) := dk_87 (dk_at dksX9_room_1 9 rfl rfl)
theorem dX9_room_34 : decode cX9_room 34 = .ok (.aload_n 0, 1) := dk_42 (dk_at dksX9_room_1 10 rfl rfl)
theorem dX9_room_35 : decode cX9_room 35 = .ok (.getfield 225, 3) := dk_180 0 225 (dk_at dksX9_room_1 11 rfl rfl)
theorem dX9_room_38 : decode cX9_room 38 = .ok (.ifCond .ne 6, 3) := dk_154 0 6 (dk_at dksX9_room_1 14 rfl rfl)
theorem dX9_room_41 : decode cX9_room 41 = .ok (.bipush (-2), 2) := dk_16 254 (dk_at dksX9_room_1 17 rfl rfl)
theorem dX9_room_43 : decode cX9_room 43 = .ok (.ireturn, 1) := dk_172 (dk_at dksX9_room_1 19 rfl rfl)
theorem dX9_room_44 : decode cX9_room 44 = .ok (.iconst 1, 1) := dk_4 (dk_at dksX9_room_1 20 rfl rfl)
theorem dX9_room_45 : decode cX9_room 45 = .ok (.istore_n 3, 1) := dk_62 (dk_at dksX9_room_1 21 rfl rfl)
theorem dX9_room_46 : decode cX9_room 46 = .ok (.iload_n 3, 1) := dk_29 (dk_at dksX9_room_1 22 rfl rfl)
theorem dX9_room_47 : decode cX9_room 47 = .ok (.sipush 10000, 3) := dk_17 39 16 (dk_at dksX9_room_2 0 rfl rfl)
theorem dX9_room_50 : decode cX9_room 50 = .ok (.if_icmp .ge 48, 3) := dk_162 0 48 (dk_at dksX9_room_2 3 rfl rfl)
theorem dX9_room_53 : decode cX9_room 53 = .ok (.aload_n 0, 1) := dk_42 (dk_at dksX9_room_2 6 rfl rfl)
theorem dX9_room_54 : decode cX9_room 54 = .ok (.getfield 39, 3) := dk_180 0 39 (dk_at dksX9_room_2 7 rfl rfl)
theorem dX9_room_57 : decode cX9_room 57 = .ok (.iconst 2, 1) := dk_5 (dk_at dksX9_room_2 10 rfl rfl)
theorem dX9_room_58 : decode cX9_room 58 = .ok (.iload_n 2, 1) := dk_28 (dk_at dksX9_room_2 11 rfl rfl)
theorem dX9_room_59 : decode cX9_room 59 = .ok (.iadd, 1) := dk_96 (dk_at dksX9_room_2 12 rfl rfl)
theorem dX9_room_60 : decode cX9_room 60 = .ok (.dup2, 1) := dk_92 (dk_at dksX9_room_2 13 rfl rfl)
theorem dX9_room_61 : decode cX9_room 61 = .ok (.laload, 1) := dk_47 (dk_at dksX9_room_2 14 rfl rfl)
theorem dX9_room_62 : decode cX9_room 62 = .ok (.lconst 1, 1) := dk_10 (dk_at dksX9_room_2 15 rfl rfl)
theorem dX9_room_63 : decode cX9_room 63 = .ok (.ladd, 1) := dk_97 (dk_at dksX9_room_2 16 rfl rfl)
theorem dX9_room_64 : decode cX9_room 64 = .ok (.lastore, 1) := dk_80 (dk_at dksX9_room_2 17 rfl rfl)
theorem dX9_room_65 : decode cX9_room 65 = .ok (.aload_n 0, 1) := dk_42 (dk_at dksX9_room_2 18 rfl rfl)
theorem dX9_room_66 : decode cX9_room 66 = .ok (.aload_n 0, 1) := dk_42 (dk_at dksX9_room_2 19 rfl rfl)
theorem dX9_room_67 : decode cX9_room 67 = .ok (.iload_n 1, 1) := dk_27 (dk_at dksX9_room_2 20 rfl rfl)
theorem dX9_room_68 : decode cX9_room 68 = .ok (.invokevirtual 237, 3) := dk_182 0 237 (dk_at dksX9_room_2 21 rfl rfl)
theorem dX9_room_71 : decode cX9_room 71 = .ok (.aload_n 0, 1) := dk_42 (dk_at dksX9_room_3 0 rfl rfl)
theorem dX9_room_72 : decode cX9_room 72 = .ok (.getfield 32, 3) := dk_180 0 32 (dk_at dksX9_room_3 1 rfl rfl)
theorem dX9_room_75 : decode cX9_room 75 = .ok (.iconst 2, 1) := dk_5 (dk_at dksX9_room_3 4 rfl rfl)
theorem dX9_room_76 : decode cX9_room 76 = .ok (.iaload, 1) := dk_46 (dk_at dksX9_room_3 5 rfl rfl)
theorem dX9_room_77 : decode cX9_room 77 = .ok (.invokevirtual 249, 3) := dk_182 0 249 (dk_at dksX9_room_3 6 rfl rfl)
theorem dX9_room_80 : decode cX9_room 80 = .ok (.pop, 1) := dk_87 (dk_at dksX9_room_3 9 rfl rfl)
theorem dX9_room_81 : decode cX9_room 81 = .ok (.aload_n 0, 1) := dk_42 (dk_at dksX9_room_3 10 rfl rfl)
theorem dX9_room_82 : decode cX9_room 82 = .ok (.getfield 225, 3) := dk_180 0 225 (dk_at dksX9_room_3 11 rfl rfl)
theorem dX9_room_85 : decode cX9_room 85 = .ok (.ifCond .ne 7, 3) := dk_154 0 7 (dk_at dksX9_room_3 14 rfl rfl)
theorem dX9_room_88 : decode cX9_room 88 = .ok (.iload_n 3, 1) := dk_29 (dk_at dksX9_room_3 17 rfl rfl)
theorem dX9_room_89 : decode cX9_room 89 = .ok (.iconst 1, 1) := dk_4 (dk_at dksX9_room_3 18 rfl rfl)
theorem dX9_room_90 : decode cX9_room 90 = .ok (.isub, 1) := dk_100 (dk_at dksX9_room_3 19 rfl rfl)
theorem dX9_room_91 : decode cX9_room 91 = .ok (.ireturn, 1) := dk_172 (dk_at dksX9_room_3 20 rfl rfl)
theorem dX9_room_92 : decode cX9_room 92 = .ok (.iinc 3 1, 3) := dk_132 3 1 (dk_at dksX9_room_3 21 rfl rfl)
theorem dX9_room_95 : decode cX9_room 95 = .ok (.goto (-49), 3) := dk_167 255 207 (dk_at dksX9_room_4 0 rfl rfl)
theorem dX9_room_98 : decode cX9_room 98 = .ok (.sipush 9999, 3) := dk_17 39 15 (dk_at dksX9_room_4 3 rfl rfl)
theorem dX9_room_101 : decode cX9_room 101 = .ok (.ireturn, 1) := dk_172 (dk_at dksX9_room_4 6 rfl rfl)
abbrev cX9_would : ByteArray := prog_17_method_110_code
def yX9_would : MethodName := ⟨RX9, "would", "(II)I"⟩
def dkwX9_would_2 : List UInt8 := [182, 1, 31, 136, 172]
abbrev dktX9_would_2 : List UInt8 := dkwX9_would_2 ++ []
def dkwX9_would_1 : List UInt8 := [182, 1, 49, 153, 0, 7, 19, 1, 70, 172, 42, 27, 42, 27, 182, 1, 52, 28, 42, 27, 182, 1, 76]
abbrev dktX9_would_1 : List UInt8 := dkwX9_would_1 ++ dktX9_would_2
def dkwX9_would_0 : List UInt8 := [42, 3, 181, 0, 49, 42, 27, 182, 1, 46, 153, 0, 20, 28, 3, 4, 184, 0, 124, 153, 0, 11, 42, 27]
abbrev dktX9_would_0 : List UInt8 := dkwX9_would_0 ++ dktX9_would_1
theorem dksX9_would_0 : cX9_would.data.toList.drop 0 = dktX9_would_0 := by decide +kernel
theorem dksX9_would_1 : cX9_would.data.toList.drop 24 = dktX9_would_1 := dk_seg dksX9_would_0 24 rfl rfl
theorem dksX9_would_2 : cX9_would.data.toList.drop 47 = dktX9_would_2 := dk_seg dksX9_would_1 23 rfl rfl
theorem dX9_would_0 : decode cX9_would 0 = .ok (.aload_n 0, 1) := dk_42 (dk_at dksX9_would_0 0 rfl rfl)
theorem dX9_would_1 : decode cX9_would 1 = .ok (.iconst 0, 1) := dk_3 (dk_at dksX9_would_0 1 rfl rfl)
theorem dX9_would_2 : decode cX9_would 2 = .ok (.putfield 49, 3) := dk_181 0 49 (dk_at dksX9_would_0 2 rfl rfl)
theorem dX9_would_5 : decode cX9_would 5 = .ok (.aload_n 0, 1) := dk_42 (dk_at dksX9_would_0 5 rfl rfl)
theorem dX9_would_6 : decode cX9_would 6 = .ok (.iload_n 1, 1) := dk_27 (dk_at dksX9_would_0 6 rfl rfl)
theorem dX9_would_7 : decode cX9_would 7 = .ok (.invokevirtual 302, 3) := dk_182 1 46 (dk_at dksX9_would_0 7 rfl rfl)
theorem dX9_would_10 : decode cX9_would 10 = .ok (.ifCond .eq 20, 3) := dk_153 0 20 (dk_at dksX9_would_0 10 rfl rfl)
theorem dX9_would_13 : decode cX9_would 13 = .ok (.iload_n 2, 1) := dk_28 (dk_at dksX9_would_0 13 rfl rfl)
theorem dX9_would_14 : decode cX9_would 14 = .ok (.iconst 0, 1) := dk_3 (dk_at dksX9_would_0 14 rfl rfl)
theorem dX9_would_15 : decode cX9_would 15 = .ok (.iconst 1, 1) := dk_4 (dk_at dksX9_would_0 15 rfl rfl)
theorem dX9_would_16 : decode cX9_would 16 = .ok (.invokestatic 124, 3) := dk_184 0 124 (dk_at dksX9_would_0 16 rfl rfl)
theorem dX9_would_19 : decode cX9_would 19 = .ok (.ifCond .eq 11, 3) := dk_153 0 11 (dk_at dksX9_would_0 19 rfl rfl)
theorem dX9_would_22 : decode cX9_would 22 = .ok (.aload_n 0, 1) := dk_42 (dk_at dksX9_would_0 22 rfl rfl)
theorem dX9_would_23 : decode cX9_would 23 = .ok (.iload_n 1, 1) := dk_27 (dk_at dksX9_would_0 23 rfl rfl)
theorem dX9_would_24 : decode cX9_would 24 = .ok (.invokevirtual 305, 3) := dk_182 1 49 (dk_at dksX9_would_1 0 rfl rfl)
theorem dX9_would_27 : decode cX9_would 27 = .ok (.ifCond .eq 7, 3) := dk_153 0 7 (dk_at dksX9_would_1 3 rfl rfl)
theorem dX9_would_30 : decode cX9_would 30 = .ok (.ldc_w 326, 3) := dk_19 1 70 (dk_at dksX9_would_1 6 rfl rfl)
theorem dX9_would_33 : decode cX9_would 33 = .ok (.ireturn, 1) := dk_172 (dk_at dksX9_would_1 9 rfl rfl)
theorem dX9_would_34 : decode cX9_would 34 = .ok (.aload_n 0, 1) := dk_42 (dk_at dksX9_would_1 10 rfl rfl)
theorem dX9_would_35 : decode cX9_would 35 = .ok (.iload_n 1, 1) := dk_27 (dk_at dksX9_would_1 11 rfl rfl)
theorem dX9_would_36 : decode cX9_would 36 = .ok (.aload_n 0, 1) := dk_42 (dk_at dksX9_would_1 12 rfl rfl)
theorem dX9_would_37 : decode cX9_would 37 = .ok (.iload_n 1, 1) := dk_27 (dk_at dksX9_would_1 13 rfl rfl)
theorem dX9_would_38 : decode cX9_would 38 = .ok (.invokevirtual 308, 3) := dk_182 1 52 (dk_at dksX9_would_1 14 rfl rfl)
theorem dX9_would_41 : decode cX9_would 41 = .ok (.iload_n 2, 1) := dk_28 (dk_at dksX9_would_1 17 rfl rfl)
theorem dX9_would_42 : decode cX9_would 42 = .ok (.aload_n 0, 1) := dk_42 (dk_at dksX9_would_1 18 rfl rfl)
theorem dX9_would_43 : decode cX9_would 43 = .ok (.iload_n 1, 1) := dk_27 (dk_at dksX9_would_1 19 rfl rfl)
theorem dX9_would_44 : decode cX9_would 44 = .ok (.invokevirtual 332, 3) := dk_182 1 76 (dk_at dksX9_would_1 20 rfl rfl)
theorem dX9_would_47 : decode cX9_would 47 = .ok (.invokevirtual 287, 3) := dk_182 1 31 (dk_at dksX9_would_2 0 rfl rfl)
theorem dX9_would_50 : decode cX9_would 50 = .ok (.l2i, 1) := dk_136 (dk_at dksX9_would_2 3 rfl rfl)
theorem dX9_would_51 : decode cX9_would 51 = .ok (.ireturn, 1) := dk_172 (dk_at dksX9_would_2 4 rfl rfl)
abbrev cX9_baseNow : ByteArray := prog_17_method_109_code
def yX9_baseNow : MethodName := ⟨RX9, "baseNow", "(I)I"⟩
def dkwX9_baseNow_1 : List UInt8 := [182, 1, 0, 182, 1, 17, 172]
abbrev dktX9_baseNow_1 : List UInt8 := dkwX9_baseNow_1 ++ []
def dkwX9_baseNow_0 : List UInt8 := [42, 27, 182, 1, 61, 153, 0, 13, 42, 27, 16, 6, 182, 1, 0, 167, 0, 14, 42, 27, 42, 27, 5]
abbrev dktX9_baseNow_0 : List UInt8 := dkwX9_baseNow_0 ++ dktX9_baseNow_1
theorem dksX9_baseNow_0 : cX9_baseNow.data.toList.drop 0 = dktX9_baseNow_0 := by decide +kernel
theorem dksX9_baseNow_1 : cX9_baseNow.data.toList.drop 23 = dktX9_baseNow_1 := dk_seg dksX9_baseNow_0 23 rfl rfl
theorem dX9_baseNow_0 : decode cX9_baseNow 0 = .ok (.aload_n 0, 1) := dk_42 (dk_at dksX9_baseNow_0 0 rfl rfl)
theorem dX9_baseNow_1 : decode cX9_baseNow 1 = .ok (.iload_n 1, 1) := dk_27 (dk_at dksX9_baseNow_0 1 rfl rfl)
theorem dX9_baseNow_2 : decode cX9_baseNow 2 = .ok (.invokevirtual 317, 3) := dk_182 1 61 (dk_at dksX9_baseNow_0 2 rfl rfl)
theorem dX9_baseNow_5 : decode cX9_baseNow 5 = .ok (.ifCond .eq 13, 3) := dk_153 0 13 (dk_at dksX9_baseNow_0 5 rfl rfl)
theorem dX9_baseNow_8 : decode cX9_baseNow 8 = .ok (.aload_n 0, 1) := dk_42 (dk_at dksX9_baseNow_0 8 rfl rfl)
theorem dX9_baseNow_9 : decode cX9_baseNow 9 = .ok (.iload_n 1, 1) := dk_27 (dk_at dksX9_baseNow_0 9 rfl rfl)
theorem dX9_baseNow_10 : decode cX9_baseNow 10 = .ok (.bipush 6, 2) := dk_16 6 (dk_at dksX9_baseNow_0 10 rfl rfl)
theorem dX9_baseNow_12 : decode cX9_baseNow 12 = .ok (.invokevirtual 256, 3) := dk_182 1 0 (dk_at dksX9_baseNow_0 12 rfl rfl)
theorem dX9_baseNow_15 : decode cX9_baseNow 15 = .ok (.goto 14, 3) := dk_167 0 14 (dk_at dksX9_baseNow_0 15 rfl rfl)
theorem dX9_baseNow_18 : decode cX9_baseNow 18 = .ok (.aload_n 0, 1) := dk_42 (dk_at dksX9_baseNow_0 18 rfl rfl)
theorem dX9_baseNow_19 : decode cX9_baseNow 19 = .ok (.iload_n 1, 1) := dk_27 (dk_at dksX9_baseNow_0 19 rfl rfl)
theorem dX9_baseNow_20 : decode cX9_baseNow 20 = .ok (.aload_n 0, 1) := dk_42 (dk_at dksX9_baseNow_0 20 rfl rfl)
theorem dX9_baseNow_21 : decode cX9_baseNow 21 = .ok (.iload_n 1, 1) := dk_27 (dk_at dksX9_baseNow_0 21 rfl rfl)
theorem dX9_baseNow_22 : decode cX9_baseNow 22 = .ok (.iconst 2, 1) := dk_5 (dk_at dksX9_baseNow_0 22 rfl rfl)
theorem dX9_baseNow_23 : decode cX9_baseNow 23 = .ok (.invokevirtual 256, 3) := dk_182 1 0 (dk_at dksX9_baseNow_1 0 rfl rfl)
theorem dX9_baseNow_26 : decode cX9_baseNow 26 = .ok (.invokevirtual 273, 3) := dk_182 1 17 (dk_at dksX9_baseNow_1 3 rfl rfl)
theorem dX9_baseNow_29 : decode cX9_baseNow 29 = .ok (.ireturn, 1) := dk_172 (dk_at dksX9_baseNow_1 6 rfl rfl)
abbrev cX9_bestWait : ByteArray := prog_17_method_111_code
def yX9_bestWait : MethodName := ⟨RX9, "bestWait", "(II)I"⟩
def dkwX9_bestWait_6 : List UInt8 := [132, 9, 1, 167, 255, 180, 21, 6, 172]
abbrev dktX9_bestWait_6 : List UInt8 := dkwX9_bestWait_6 ++ []
def dkwX9_bestWait_5 : List UInt8 := [158, 0, 14, 22, 10, 22, 7, 148, 157, 0, 6, 167, 0, 11, 21, 9, 54, 6, 22, 10, 55, 7]
abbrev dktX9_bestWait_5 : List UInt8 := dkwX9_bestWait_5 ++ dktX9_bestWait_6
def dkwX9_bestWait_4 : List UInt8 := [21, 9, 133, 105, 42, 27, 42, 27, 182, 1, 52, 21, 9, 100, 28, 29, 182, 1, 31, 97, 55, 10, 21, 9]
abbrev dktX9_bestWait_4 : List UInt8 := dkwX9_bestWait_4 ++ dktX9_bestWait_5
def dkwX9_bestWait_3 : List UInt8 := [27, 182, 1, 52, 163, 0, 72, 22, 4, 42, 27, 182, 1, 61, 153, 0, 10, 21, 9, 4, 96, 167, 0, 5]
abbrev dktX9_bestWait_3 : List UInt8 := dkwX9_bestWait_3 ++ dktX9_bestWait_4
def dkwX9_bestWait_2 : List UInt8 := [182, 1, 0, 182, 1, 17, 29, 182, 1, 24, 55, 4, 3, 54, 6, 9, 55, 7, 3, 54, 9, 21, 9, 42]
abbrev dktX9_bestWait_2 : List UInt8 := dkwX9_bestWait_2 ++ dktX9_bestWait_3
def dkwX9_bestWait_1 : List UInt8 := [42, 27, 182, 1, 49, 153, 0, 6, 16, 254, 172, 42, 27, 182, 1, 76, 62, 42, 27, 42, 27, 42, 27, 5]
abbrev dktX9_bestWait_1 : List UInt8 := dkwX9_bestWait_1 ++ dktX9_bestWait_2
def dkwX9_bestWait_0 : List UInt8 := [42, 3, 181, 0, 49, 42, 27, 182, 1, 46, 153, 0, 12, 28, 3, 4, 184, 0, 124, 154, 0, 5, 2, 172]
abbrev dktX9_bestWait_0 : List UInt8 := dkwX9_bestWait_0 ++ dktX9_bestWait_1
theorem dksX9_bestWait_0 : cX9_bestWait.data.toList.drop 0 = dktX9_bestWait_0 := by decide +kernel
theorem dksX9_bestWait_1 : cX9_bestWait.data.toList.drop 24 = dktX9_bestWait_1 := dk_seg dksX9_bestWait_0 24 rfl rfl
theorem dksX9_bestWait_2 : cX9_bestWait.data.toList.drop 48 = dktX9_bestWait_2 := dk_seg dksX9_bestWait_1 24 rfl rfl
theorem dksX9_bestWait_3 : cX9_bestWait.data.toList.drop 72 = dktX9_bestWait_3 := dk_seg dksX9_bestWait_2 24 rfl rfl
theorem dksX9_bestWait_4 : cX9_bestWait.data.toList.drop 96 = dktX9_bestWait_4 := dk_seg dksX9_bestWait_3 24 rfl rfl
theorem dksX9_bestWait_5 : cX9_bestWait.data.toList.drop 120 = dktX9_bestWait_5 := dk_seg dksX9_bestWait_4 24 rfl rfl
theorem dksX9_bestWait_6 : cX9_bestWait.data.toList.drop 142 = dktX9_bestWait_6 := dk_seg dksX9_bestWait_5 22 rfl rfl
theorem dX9_bestWait_0 : decode cX9_bestWait 0 = .ok (.aload_n 0, 1) := dk_42 (dk_at dksX9_bestWait_0 0 rfl rfl)
theorem dX9_bestWait_1 : decode cX9_bestWait 1 = .ok (.iconst 0, 1) := dk_3 (dk_at dksX9_bestWait_0 1 rfl rfl)
theorem dX9_bestWait_2 : decode cX9_bestWait 2 = .ok (.putfield 49, 3) := dk_181 0 49 (dk_at dksX9_bestWait_0 2 rfl rfl)
theorem dX9_bestWait_5 : decode cX9_bestWait 5 = .ok (.aload_n 0, 1) := dk_42 (dk_at dksX9_bestWait_0 5 rfl rfl)
theorem dX9_bestWait_6 : decode cX9_bestWait 6 = .ok (.iload_n 1, 1) := dk_27 (dk_at dksX9_bestWait_0 6 rfl rfl)
theorem dX9_bestWait_7 : decode cX9_bestWait 7 = .ok (.invokevirtual 302, 3) := dk_182 1 46 (dk_at dksX9_bestWait_0 7 rfl rfl)
theorem dX9_bestWait_10 : decode cX9_bestWait 10 = .ok (.ifCond .eq 12, 3) := dk_153 0 12 (dk_at dksX9_bestWait_0 10 rfl rfl)
theorem dX9_bestWait_13 : decode cX9_bestWait 13 = .ok (.iload_n 2, 1) := dk_28 (dk_at dksX9_bestWait_0 13 rfl rfl)
theorem dX9_bestWait_14 : decode cX9_bestWait 14 = .ok (.iconst 0, 1) := dk_3 (dk_at dksX9_bestWait_0 14 rfl rfl)
theorem dX9_bestWait_15 : decode cX9_bestWait 15 = .ok (.iconst 1, 1) := dk_4 (dk_at dksX9_bestWait_0 15 rfl rfl)
theorem dX9_bestWait_16 : decode cX9_bestWait 16 = .ok (.invokestatic 124, 3) := dk_184 0 124 (dk_at dksX9_bestWait_0 16 rfl rfl)
theorem dX9_bestWait_19 : decode cX9_bestWait 19 = .ok (.ifCond .ne 5, 3) := dk_154 0 5 (dk_at dksX9_bestWait_0 19 rfl rfl)
theorem dX9_bestWait_22 : decode cX9_bestWait 22 = .ok (.iconst (-1), 1) := dk_2 (dk_at dksX9_bestWait_0 22 rfl rfl)
theorem dX9_bestWait_23 : decode cX9_bestWait 23 = .ok (.ireturn, 1) := dk_172 (dk_at dksX9_bestWait_0 23 rfl rfl)
theorem dX9_bestWait_24 : decode cX9_bestWait 24 = .ok (.aload_n 0, 1) := dk_42 (dk_at dksX9_bestWait_1 0 rfl rfl)
theorem dX9_bestWait_25 : decode cX9_bestWait 25 = .ok (.iload_n 1, 1) := dk_27 (dk_at dksX9_bestWait_1 1 rfl rfl)
theorem dX9_bestWait_26 : decode cX9_bestWait 26 = .ok (.invokevirtual 305, 3) := dk_182 1 49 (dk_at dksX9_bestWait_1 2 rfl rfl)
theorem dX9_bestWait_29 : decode cX9_bestWait 29 = .ok (.ifCond .eq 6, 3) := dk_153 0 6 (dk_at dksX9_bestWait_1 5 rfl rfl)
theorem dX9_bestWait_32 : decode cX9_bestWait 32 = .ok (.bipush (-2), 2) := dk_16 254 (dk_at dksX9_bestWait_1 8 rfl rfl)
theorem dX9_bestWait_34 : decode cX9_bestWait 34 = .ok (.ireturn, 1) := dk_172 (dk_at dksX9_bestWait_1 10 rfl rfl)
theorem dX9_bestWait_35 : decode cX9_bestWait 35 = .ok (.aload_n 0, 1) := dk_42 (dk_at dksX9_bestWait_1 11 rfl rfl)
theorem dX9_bestWait_36 : decode cX9_bestWait 36 = .ok (.iload_n 1, 1) := dk_27 (dk_at dksX9_bestWait_1 12 rfl rfl)
theorem dX9_bestWait_37 : decode cX9_bestWait 37 = .ok (.invokevirtual 332, 3) := dk_182 1 76 (dk_at dksX9_bestWait_1 13 rfl rfl)
theorem dX9_bestWait_40 : decode cX9_bestWait 40 = .ok (.istore_n 3, 1) := dk_62 (dk_at dksX9_bestWait_1 16 rfl rfl)
theorem dX9_bestWait_41 : decode cX9_bestWait 41 = .ok (.aload_n 0, 1) := dk_42 (dk_at dksX9_bestWait_1 17 rfl rfl)
theorem dX9_bestWait_42 : decode cX9_bestWait 42 = .ok (.iload_n 1, 1) := dk_27 (dk_at dksX9_bestWait_1 18 rfl rfl)
theorem dX9_bestWait_43 : decode cX9_bestWait 43 = .ok (.aload_n 0, 1) := dk_42 (dk_at dksX9_bestWait_1 19 rfl rfl)
theorem dX9_bestWait_44 : decode cX9_bestWait 44 = .ok (.iload_n 1, 1) := dk_27 (dk_at dksX9_bestWait_1 20 rfl rfl)
theorem dX9_bestWait_45 : decode cX9_bestWait 45 = .ok (.aload_n 0, 1) := dk_42 (dk_at dksX9_bestWait_1 21 rfl rfl)
theorem dX9_bestWait_46 : decode cX9_bestWait 46 = .ok (.iload_n 1, 1) := dk_27 (dk_at dksX9_bestWait_1 22 rfl rfl)
theorem dX9_bestWait_47 : decode cX9_bestWait 47 = .ok (.iconst 2, 1) := dk_5 (dk_at dksX9_bestWait_1 23 rfl rfl)
theorem dX9_bestWait_48 : decode cX9_bestWait 48 = .ok (.invokevirtual 256, 3) := dk_182 1 0 (dk_at dksX9_bestWait_2 0 rfl rfl)
theorem dX9_bestWait_51 : decode cX9_bestWait 51 = .ok (.invokevirtual 273, 3) := dk_182 1 17 (dk_at dksX9_bestWait_2 3 rfl rfl)
theorem dX9_bestWait_54 : decode cX9_bestWait 54 = .ok (.iload_n 3, 1) := dk_29 (dk_at dksX9_bestWait_2 6 rfl rfl)
theorem dX9_bestWait_55 : decode cX9_bestWait 55 = .ok (.invokevirtual 280, 3) := dk_182 1 24 (dk_at dksX9_bestWait_2 7 rfl rfl)
theorem dX9_bestWait_58 : decode cX9_bestWait 58 = .ok (.lstore 4, 2) := dk_55 4 (dk_at dksX9_bestWait_2 10 rfl rfl)
theorem dX9_bestWait_60 : decode cX9_bestWait 60 = .ok (.iconst 0, 1) := dk_3 (dk_at dksX9_bestWait_2 12 rfl rfl)
theorem dX9_bestWait_61 : decode cX9_bestWait 61 = .ok (.istore 6, 2) := dk_54 6 (dk_at dksX9_bestWait_2 13 rfl rfl)
theorem dX9_bestWait_63 : decode cX9_bestWait 63 = .ok (.lconst 0, 1) := dk_9 (dk_at dksX9_bestWait_2 15 rfl rfl)
theorem dX9_bestWait_64 : decode cX9_bestWait 64 = .ok (.lstore 7, 2) := dk_55 7 (dk_at dksX9_bestWait_2 16 rfl rfl)
theorem dX9_bestWait_66 : decode cX9_bestWait 66 = .ok (.iconst 0, 1) := dk_3 (dk_at dksX9_bestWait_2 18 rfl rfl)
theorem dX9_bestWait_67 : decode cX9_bestWait 67 = .ok (.istore 9, 2) := dk_54 9 (dk_at dksX9_bestWait_2 19 rfl rfl)
theorem dX9_bestWait_69 : decode cX9_bestWait 69 = .ok (.iload 9, 2) := dk_21 9 (dk_at dksX9_bestWait_2 21 rfl rfl)
theorem dX9_bestWait_71 : decode cX9_bestWait 71 = .ok (.aload_n 0, 1) := dk_42 (dk_at dksX9_bestWait_2 23 rfl rfl)
theorem dX9_bestWait_72 : decode cX9_bestWait 72 = .ok (.iload_n 1, 1) := dk_27 (dk_at dksX9_bestWait_3 0 rfl rfl)
theorem dX9_bestWait_73 : decode cX9_bestWait 73 = .ok (.invokevirtual 308, 3) := dk_182 1 52 (dk_at dksX9_bestWait_3 1 rfl rfl)
theorem dX9_bestWait_76 : decode cX9_bestWait 76 = .ok (.if_icmp .gt 72, 3) := dk_163 0 72 (dk_at dksX9_bestWait_3 4 rfl rfl)
theorem dX9_bestWait_79 : decode cX9_bestWait 79 = .ok (.lload 4, 2) := dk_22 4 (dk_at dksX9_bestWait_3 7 rfl rfl)
theorem dX9_bestWait_81 : decode cX9_bestWait 81 = .ok (.aload_n 0, 1) := dk_42 (dk_at dksX9_bestWait_3 9 rfl rfl)
theorem dX9_bestWait_82 : decode cX9_bestWait 82 = .ok (.iload_n 1, 1) := dk_27 (dk_at dksX9_bestWait_3 10 rfl rfl)
theorem dX9_bestWait_83 : decode cX9_bestWait 83 = .ok (.invokevirtual 317, 3) := dk_182 1 61 (dk_at dksX9_bestWait_3 11 rfl rfl)
theorem dX9_bestWait_86 : decode cX9_bestWait 86 = .ok (.ifCond .eq 10, 3) := dk_153 0 10 (dk_at dksX9_bestWait_3 14 rfl rfl)
theorem dX9_bestWait_89 : decode cX9_bestWait 89 = .ok (.iload 9, 2) := dk_21 9 (dk_at dksX9_bestWait_3 17 rfl rfl)
theorem dX9_bestWait_91 : decode cX9_bestWait 91 = .ok (.iconst 1, 1) := dk_4 (dk_at dksX9_bestWait_3 19 rfl rfl)
theorem dX9_bestWait_92 : decode cX9_bestWait 92 = .ok (.iadd, 1) := dk_96 (dk_at dksX9_bestWait_3 20 rfl rfl)
theorem dX9_bestWait_93 : decode cX9_bestWait 93 = .ok (.goto 5, 3) := dk_167 0 5 (dk_at dksX9_bestWait_3 21 rfl rfl)
theorem dX9_bestWait_96 : decode cX9_bestWait 96 = .ok (.iload 9, 2) := dk_21 9 (dk_at dksX9_bestWait_4 0 rfl rfl)
theorem dX9_bestWait_98 : decode cX9_bestWait 98 = .ok (.i2l, 1) := dk_133 (dk_at dksX9_bestWait_4 2 rfl rfl)
theorem dX9_bestWait_99 : decode cX9_bestWait 99 = .ok (.lmul, 1) := dk_105 (dk_at dksX9_bestWait_4 3 rfl rfl)
theorem dX9_bestWait_100 : decode cX9_bestWait 100 = .ok (.aload_n 0, 1) := dk_42 (dk_at dksX9_bestWait_4 4 rfl rfl)
theorem dX9_bestWait_101 : decode cX9_bestWait 101 = .ok (.iload_n 1, 1) := dk_27 (dk_at dksX9_bestWait_4 5 rfl rfl)
theorem dX9_bestWait_102 : decode cX9_bestWait 102 = .ok (.aload_n 0, 1) := dk_42 (dk_at dksX9_bestWait_4 6 rfl rfl)
theorem dX9_bestWait_103 : decode cX9_bestWait 103 = .ok (.iload_n 1, 1) := dk_27 (dk_at dksX9_bestWait_4 7 rfl rfl)
theorem dX9_bestWait_104 : decode cX9_bestWait 104 = .ok (.invokevirtual 308, 3) := dk_182 1 52 (dk_at dksX9_bestWait_4 8 rfl rfl)
theorem dX9_bestWait_107 : decode cX9_bestWait 107 = .ok (.iload 9, 2) := dk_21 9 (dk_at dksX9_bestWait_4 11 rfl rfl)
theorem dX9_bestWait_109 : decode cX9_bestWait 109 = .ok (.isub, 1) := dk_100 (dk_at dksX9_bestWait_4 13 rfl rfl)
theorem dX9_bestWait_110 : decode cX9_bestWait 110 = .ok (.iload_n 2, 1) := dk_28 (dk_at dksX9_bestWait_4 14 rfl rfl)
theorem dX9_bestWait_111 : decode cX9_bestWait 111 = .ok (.iload_n 3, 1) := dk_29 (dk_at dksX9_bestWait_4 15 rfl rfl)
theorem dX9_bestWait_112 : decode cX9_bestWait 112 = .ok (.invokevirtual 287, 3) := dk_182 1 31 (dk_at dksX9_bestWait_4 16 rfl rfl)
theorem dX9_bestWait_115 : decode cX9_bestWait 115 = .ok (.ladd, 1) := dk_97 (dk_at dksX9_bestWait_4 19 rfl rfl)
theorem dX9_bestWait_116 : decode cX9_bestWait 116 = .ok (.lstore 10, 2) := dk_55 10 (dk_at dksX9_bestWait_4 20 rfl rfl)
theorem dX9_bestWait_118 : decode cX9_bestWait 118 = .ok (.iload 9, 2) := dk_21 9 (dk_at dksX9_bestWait_4 22 rfl rfl)
theorem dX9_bestWait_120 : decode cX9_bestWait 120 = .ok (.ifCond .le 14, 3) := dk_158 0 14 (dk_at dksX9_bestWait_5 0 rfl rfl)
theorem dX9_bestWait_123 : decode cX9_bestWait 123 = .ok (.lload 10, 2) := dk_22 10 (dk_at dksX9_bestWait_5 3 rfl rfl)
theorem dX9_bestWait_125 : decode cX9_bestWait 125 = .ok (.lload 7, 2) := dk_22 7 (dk_at dksX9_bestWait_5 5 rfl rfl)
theorem dX9_bestWait_127 : decode cX9_bestWait 127 = .ok (.lcmp, 1) := dk_148 (dk_at dksX9_bestWait_5 7 rfl rfl)
theorem dX9_bestWait_128 : decode cX9_bestWait 128 = .ok (.ifCond .gt 6, 3) := dk_157 0 6 (dk_at dksX9_bestWait_5 8 rfl rfl)
theorem dX9_bestWait_131 : decode cX9_bestWait 131 = .ok (.goto 11, 3) := dk_167 0 11 (dk_at dksX9_bestWait_5 11 rfl rfl)
theorem dX9_bestWait_134 : decode cX9_bestWait 134 = .ok (.iload 9, 2) := dk_21 9 (dk_at dksX9_bestWait_5 14 rfl rfl)
theorem dX9_bestWait_136 : decode cX9_bestWait 136 = .ok (.istore 6, 2) := dk_54 6 (dk_at dksX9_bestWait_5 16 rfl rfl)
theorem dX9_bestWait_138 : decode cX9_bestWait 138 = .ok (.lload 10, 2) := dk_22 10 (dk_at dksX9_bestWait_5 18 rfl rfl)
theorem dX9_bestWait_140 : decode cX9_bestWait 140 = .ok (.lstore 7, 2) := dk_55 7 (dk_at dksX9_bestWait_5 20 rfl rfl)
theorem dX9_bestWait_142 : decode cX9_bestWait 142 = .ok (.iinc 9 1, 3) := dk_132 9 1 (dk_at dksX9_bestWait_6 0 rfl rfl)
theorem dX9_bestWait_145 : decode cX9_bestWait 145 = .ok (.goto (-76), 3) := dk_167 255 180 (dk_at dksX9_bestWait_6 3 rfl rfl)
theorem dX9_bestWait_148 : decode cX9_bestWait 148 = .ok (.iload 6, 2) := dk_21 6 (dk_at dksX9_bestWait_6 6 rfl rfl)
theorem dX9_bestWait_150 : decode cX9_bestWait 150 = .ok (.ireturn, 1) := dk_172 (dk_at dksX9_bestWait_6 8 rfl rfl)
abbrev cX9_project : ByteArray := prog_17_method_112_code
def yX9_project : MethodName := ⟨RX9, "project", "(II)I"⟩
def dkwX9_project_4 : List UInt8 := [182, 1, 20, 28, 4, 100, 133, 22, 4, 105, 97, 136, 172]
abbrev dktX9_project_4 : List UInt8 := dkwX9_project_4 ++ []
def dkwX9_project_3 : List UInt8 := [153, 0, 20, 42, 27, 16, 10, 182, 1, 0, 133, 28, 133, 22, 4, 105, 97, 167, 0, 17, 42, 27, 29]
abbrev dktX9_project_3 : List UInt8 := dkwX9_project_3 ++ dktX9_project_4
def dkwX9_project_2 : List UInt8 := [42, 27, 42, 27, 5, 182, 1, 0, 182, 1, 17, 29, 182, 1, 24, 55, 4, 42, 27, 182, 1, 61]
abbrev dktX9_project_2 : List UInt8 := dkwX9_project_2 ++ dktX9_project_3
def dkwX9_project_1 : List UInt8 := [27, 182, 1, 52, 4, 96, 184, 0, 124, 154, 0, 7, 19, 1, 70, 172, 42, 27, 182, 1, 76, 62, 42, 27]
abbrev dktX9_project_1 : List UInt8 := dkwX9_project_1 ++ dktX9_project_2
def dkwX9_project_0 : List UInt8 := [42, 3, 181, 0, 49, 42, 27, 182, 1, 46, 153, 0, 26, 42, 27, 182, 1, 49, 154, 0, 18, 28, 4, 42]
abbrev dktX9_project_0 : List UInt8 := dkwX9_project_0 ++ dktX9_project_1
theorem dksX9_project_0 : cX9_project.data.toList.drop 0 = dktX9_project_0 := by decide +kernel
theorem dksX9_project_1 : cX9_project.data.toList.drop 24 = dktX9_project_1 := dk_seg dksX9_project_0 24 rfl rfl
theorem dksX9_project_2 : cX9_project.data.toList.drop 48 = dktX9_project_2 := dk_seg dksX9_project_1 24 rfl rfl
theorem dksX9_project_3 : cX9_project.data.toList.drop 70 = dktX9_project_3 := dk_seg dksX9_project_2 22 rfl rfl
theorem dksX9_project_4 : cX9_project.data.toList.drop 93 = dktX9_project_4 := dk_seg dksX9_project_3 23 rfl rfl
theorem dX9_project_0 : decode cX9_project 0 = .ok (.aload_n 0, 1) := dk_42 (dk_at dksX9_project_0 0 rfl rfl)
theorem dX9_project_1 : decode cX9_project 1 = .ok (.iconst 0, 1) := dk_3 (dk_at dksX9_project_0 1 rfl rfl)
theorem dX9_project_2 : decode cX9_project 2 = .ok (.putfield 49, 3) := dk_181 0 49 (dk_at dksX9_project_0 2 rfl rfl)
theorem dX9_project_5 : decode cX9_project 5 = .ok (.aload_n 0, 1) := dk_42 (dk_at dksX9_project_0 5 rfl rfl)
theorem dX9_project_6 : decode cX9_project 6 = .ok (.iload_n 1, 1) := dk_27 (dk_at dksX9_project_0 6 rfl rfl)
theorem dX9_project_7 : decode cX9_project 7 = .ok (.invokevirtual 302, 3) := dk_182 1 46 (dk_at dksX9_project_0 7 rfl rfl)
theorem dX9_project_10 : decode cX9_project 10 = .ok (.ifCond .eq 26, 3) := dk_153 0 26 (dk_at dksX9_project_0 10 rfl rfl)
theorem dX9_project_13 : decode cX9_project 13 = .ok (.aload_n 0, 1) := dk_42 (dk_at dksX9_project_0 13 rfl rfl)
theorem dX9_project_14 : decode cX9_project 14 = .ok (.iload_n 1, 1) := dk_27 (dk_at dksX9_project_0 14 rfl rfl)
theorem dX9_project_15 : decode cX9_project 15 = .ok (.invokevirtual 305, 3) := dk_182 1 49 (dk_at dksX9_project_0 15 rfl rfl)
theorem dX9_project_18 : decode cX9_project 18 = .ok (.ifCond .ne 18, 3) := dk_154 0 18 (dk_at dksX9_project_0 18 rfl rfl)
theorem dX9_project_21 : decode cX9_project 21 = .ok (.iload_n 2, 1) := dk_28 (dk_at dksX9_project_0 21 rfl rfl)
theorem dX9_project_22 : decode cX9_project 22 = .ok (.iconst 1, 1) := dk_4 (dk_at dksX9_project_0 22 rfl rfl)
theorem dX9_project_23 : decode cX9_project 23 = .ok (.aload_n 0, 1) := dk_42 (dk_at dksX9_project_0 23 rfl rfl)
theorem dX9_project_24 : decode cX9_project 24 = .ok (.iload_n 1, 1) := dk_27 (dk_at dksX9_project_1 0 rfl rfl)
theorem dX9_project_25 : decode cX9_project 25 = .ok (.invokevirtual 308, 3) := dk_182 1 52 (dk_at dksX9_project_1 1 rfl rfl)
theorem dX9_project_28 : decode cX9_project 28 = .ok (.iconst 1, 1) := dk_4 (dk_at dksX9_project_1 4 rfl rfl)
theorem dX9_project_29 : decode cX9_project 29 = .ok (.iadd, 1) := dk_96 (dk_at dksX9_project_1 5 rfl rfl)
theorem dX9_project_30 : decode cX9_project 30 = .ok (.invokestatic 124, 3) := dk_184 0 124 (dk_at dksX9_project_1 6 rfl rfl)
theorem dX9_project_33 : decode cX9_project 33 = .ok (.ifCond .ne 7, 3) := dk_154 0 7 (dk_at dksX9_project_1 9 rfl rfl)
theorem dX9_project_36 : decode cX9_project 36 = .ok (.ldc_w 326, 3) := dk_19 1 70 (dk_at dksX9_project_1 12 rfl rfl)
theorem dX9_project_39 : decode cX9_project 39 = .ok (.ireturn, 1) := dk_172 (dk_at dksX9_project_1 15 rfl rfl)
theorem dX9_project_40 : decode cX9_project 40 = .ok (.aload_n 0, 1) := dk_42 (dk_at dksX9_project_1 16 rfl rfl)
theorem dX9_project_41 : decode cX9_project 41 = .ok (.iload_n 1, 1) := dk_27 (dk_at dksX9_project_1 17 rfl rfl)
theorem dX9_project_42 : decode cX9_project 42 = .ok (.invokevirtual 332, 3) := dk_182 1 76 (dk_at dksX9_project_1 18 rfl rfl)
theorem dX9_project_45 : decode cX9_project 45 = .ok (.istore_n 3, 1) := dk_62 (dk_at dksX9_project_1 21 rfl rfl)
theorem dX9_project_46 : decode cX9_project 46 = .ok (.aload_n 0, 1) := dk_42 (dk_at dksX9_project_1 22 rfl rfl)
theorem dX9_project_47 : decode cX9_project 47 = .ok (.iload_n 1, 1) := dk_27 (dk_at dksX9_project_1 23 rfl rfl)
theorem dX9_project_48 : decode cX9_project 48 = .ok (.aload_n 0, 1) := dk_42 (dk_at dksX9_project_2 0 rfl rfl)
theorem dX9_project_49 : decode cX9_project 49 = .ok (.iload_n 1, 1) := dk_27 (dk_at dksX9_project_2 1 rfl rfl)
theorem dX9_project_50 : decode cX9_project 50 = .ok (.aload_n 0, 1) := dk_42 (dk_at dksX9_project_2 2 rfl rfl)
theorem dX9_project_51 : decode cX9_project 51 = .ok (.iload_n 1, 1) := dk_27 (dk_at dksX9_project_2 3 rfl rfl)
theorem dX9_project_52 : decode cX9_project 52 = .ok (.iconst 2, 1) := dk_5 (dk_at dksX9_project_2 4 rfl rfl)
theorem dX9_project_53 : decode cX9_project 53 = .ok (.invokevirtual 256, 3) := dk_182 1 0 (dk_at dksX9_project_2 5 rfl rfl)
theorem dX9_project_56 : decode cX9_project 56 = .ok (.invokevirtual 273, 3) := dk_182 1 17 (dk_at dksX9_project_2 8 rfl rfl)
theorem dX9_project_59 : decode cX9_project 59 = .ok (.iload_n 3, 1) := dk_29 (dk_at dksX9_project_2 11 rfl rfl)
theorem dX9_project_60 : decode cX9_project 60 = .ok (.invokevirtual 280, 3) := dk_182 1 24 (dk_at dksX9_project_2 12 rfl rfl)
theorem dX9_project_63 : decode cX9_project 63 = .ok (.lstore 4, 2) := dk_55 4 (dk_at dksX9_project_2 15 rfl rfl)
theorem dX9_project_65 : decode cX9_project 65 = .ok (.aload_n 0, 1) := dk_42 (dk_at dksX9_project_2 17 rfl rfl)
theorem dX9_project_66 : decode cX9_project 66 = .ok (.iload_n 1, 1) := dk_27 (dk_at dksX9_project_2 18 rfl rfl)
theorem dX9_project_67 : decode cX9_project 67 = .ok (.invokevirtual 317, 3) := dk_182 1 61 (dk_at dksX9_project_2 19 rfl rfl)
theorem dX9_project_70 : decode cX9_project 70 = .ok (.ifCond .eq 20, 3) := dk_153 0 20 (dk_at dksX9_project_3 0 rfl rfl)
theorem dX9_project_73 : decode cX9_project 73 = .ok (.aload_n 0, 1) := dk_42 (dk_at dksX9_project_3 3 rfl rfl)
theorem dX9_project_74 : decode cX9_project 74 = .ok (.iload_n 1, 1) := dk_27 (dk_at dksX9_project_3 4 rfl rfl)
theorem dX9_project_75 : decode cX9_project 75 = .ok (.bipush 10, 2) := dk_16 10 (dk_at dksX9_project_3 5 rfl rfl)
theorem dX9_project_77 : decode cX9_project 77 = .ok (.invokevirtual 256, 3) := dk_182 1 0 (dk_at dksX9_project_3 7 rfl rfl)
theorem dX9_project_80 : decode cX9_project 80 = .ok (.i2l, 1) := dk_133 (dk_at dksX9_project_3 10 rfl rfl)
theorem dX9_project_81 : decode cX9_project 81 = .ok (.iload_n 2, 1) := dk_28 (dk_at dksX9_project_3 11 rfl rfl)
theorem dX9_project_82 : decode cX9_project 82 = .ok (.i2l, 1) := dk_133 (dk_at dksX9_project_3 12 rfl rfl)
theorem dX9_project_83 : decode cX9_project 83 = .ok (.lload 4, 2) := dk_22 4 (dk_at dksX9_project_3 13 rfl rfl)
theorem dX9_project_85 : decode cX9_project 85 = .ok (.lmul, 1) := dk_105 (dk_at dksX9_project_3 15 rfl rfl)
theorem dX9_project_86 : decode cX9_project 86 = .ok (.ladd, 1) := dk_97 (dk_at dksX9_project_3 16 rfl rfl)
theorem dX9_project_87 : decode cX9_project 87 = .ok (.goto 17, 3) := dk_167 0 17 (dk_at dksX9_project_3 17 rfl rfl)
theorem dX9_project_90 : decode cX9_project 90 = .ok (.aload_n 0, 1) := dk_42 (dk_at dksX9_project_3 20 rfl rfl)
theorem dX9_project_91 : decode cX9_project 91 = .ok (.iload_n 1, 1) := dk_27 (dk_at dksX9_project_3 21 rfl rfl)
theorem dX9_project_92 : decode cX9_project 92 = .ok (.iload_n 3, 1) := dk_29 (dk_at dksX9_project_3 22 rfl rfl)
theorem dX9_project_93 : decode cX9_project 93 = .ok (.invokevirtual 276, 3) := dk_182 1 20 (dk_at dksX9_project_4 0 rfl rfl)
theorem dX9_project_96 : decode cX9_project 96 = .ok (.iload_n 2, 1) := dk_28 (dk_at dksX9_project_4 3 rfl rfl)
theorem dX9_project_97 : decode cX9_project 97 = .ok (.iconst 1, 1) := dk_4 (dk_at dksX9_project_4 4 rfl rfl)
theorem dX9_project_98 : decode cX9_project 98 = .ok (.isub, 1) := dk_100 (dk_at dksX9_project_4 5 rfl rfl)
theorem dX9_project_99 : decode cX9_project 99 = .ok (.i2l, 1) := dk_133 (dk_at dksX9_project_4 6 rfl rfl)
theorem dX9_project_100 : decode cX9_project 100 = .ok (.lload 4, 2) := dk_22 4 (dk_at dksX9_project_4 7 rfl rfl)
theorem dX9_project_102 : decode cX9_project 102 = .ok (.lmul, 1) := dk_105 (dk_at dksX9_project_4 9 rfl rfl)
theorem dX9_project_103 : decode cX9_project 103 = .ok (.ladd, 1) := dk_97 (dk_at dksX9_project_4 10 rfl rfl)
theorem dX9_project_104 : decode cX9_project 104 = .ok (.l2i, 1) := dk_136 (dk_at dksX9_project_4 11 rfl rfl)
theorem dX9_project_105 : decode cX9_project 105 = .ok (.ireturn, 1) := dk_172 (dk_at dksX9_project_4 12 rfl rfl)
abbrev cX9_ifUse : ByteArray := prog_17_method_113_code
def yX9_ifUse : MethodName := ⟨RX9, "ifUse", "(II)I"⟩
def dkwX9_ifUse_2 : List UInt8 := [172]
abbrev dktX9_ifUse_2 : List UInt8 := dkwX9_ifUse_2 ++ []
def dkwX9_ifUse_1 : List UInt8 := [182, 1, 49, 154, 0, 11, 42, 27, 182, 1, 61, 154, 0, 7, 19, 1, 70, 172, 42, 27, 28, 182, 1, 17]
abbrev dktX9_ifUse_1 : List UInt8 := dkwX9_ifUse_1 ++ dktX9_ifUse_2
def dkwX9_ifUse_0 : List UInt8 := [42, 3, 181, 0, 49, 42, 27, 182, 1, 46, 153, 0, 28, 28, 3, 5, 184, 0, 124, 153, 0, 19, 42, 27]
abbrev dktX9_ifUse_0 : List UInt8 := dkwX9_ifUse_0 ++ dktX9_ifUse_1
theorem dksX9_ifUse_0 : cX9_ifUse.data.toList.drop 0 = dktX9_ifUse_0 := by decide +kernel
theorem dksX9_ifUse_1 : cX9_ifUse.data.toList.drop 24 = dktX9_ifUse_1 := dk_seg dksX9_ifUse_0 24 rfl rfl
theorem dksX9_ifUse_2 : cX9_ifUse.data.toList.drop 48 = dktX9_ifUse_2 := dk_seg dksX9_ifUse_1 24 rfl rfl
theorem dX9_ifUse_0 : decode cX9_ifUse 0 = .ok (.aload_n 0, 1) := dk_42 (dk_at dksX9_ifUse_0 0 rfl rfl)
theorem dX9_ifUse_1 : decode cX9_ifUse 1 = .ok (.iconst 0, 1) := dk_3 (dk_at dksX9_ifUse_0 1 rfl rfl)
theorem dX9_ifUse_2 : decode cX9_ifUse 2 = .ok (.putfield 49, 3) := dk_181 0 49 (dk_at dksX9_ifUse_0 2 rfl rfl)
theorem dX9_ifUse_5 : decode cX9_ifUse 5 = .ok (.aload_n 0, 1) := dk_42 (dk_at dksX9_ifUse_0 5 rfl rfl)
theorem dX9_ifUse_6 : decode cX9_ifUse 6 = .ok (.iload_n 1, 1) := dk_27 (dk_at dksX9_ifUse_0 6 rfl rfl)
theorem dX9_ifUse_7 : decode cX9_ifUse 7 = .ok (.invokevirtual 302, 3) := dk_182 1 46 (dk_at dksX9_ifUse_0 7 rfl rfl)
theorem dX9_ifUse_10 : decode cX9_ifUse 10 = .ok (.ifCond .eq 28, 3) := dk_153 0 28 (dk_at dksX9_ifUse_0 10 rfl rfl)
theorem dX9_ifUse_13 : decode cX9_ifUse 13 = .ok (.iload_n 2, 1) := dk_28 (dk_at dksX9_ifUse_0 13 rfl rfl)
theorem dX9_ifUse_14 : decode cX9_ifUse 14 = .ok (.iconst 0, 1) := dk_3 (dk_at dksX9_ifUse_0 14 rfl rfl)
theorem dX9_ifUse_15 : decode cX9_ifUse 15 = .ok (.iconst 2, 1) := dk_5 (dk_at dksX9_ifUse_0 15 rfl rfl)
theorem dX9_ifUse_16 : decode cX9_ifUse 16 = .ok (.invokestatic 124, 3) := dk_184 0 124 (dk_at dksX9_ifUse_0 16 rfl rfl)
theorem dX9_ifUse_19 : decode cX9_ifUse 19 = .ok (.ifCond .eq 19, 3) := dk_153 0 19 (dk_at dksX9_ifUse_0 19 rfl rfl)
theorem dX9_ifUse_22 : decode cX9_ifUse 22 = .ok (.aload_n 0, 1) := dk_42 (dk_at dksX9_ifUse_0 22 rfl rfl)
theorem dX9_ifUse_23 : decode cX9_ifUse 23 = .ok (.iload_n 1, 1) := dk_27 (dk_at dksX9_ifUse_0 23 rfl rfl)
theorem dX9_ifUse_24 : decode cX9_ifUse 24 = .ok (.invokevirtual 305, 3) := dk_182 1 49 (dk_at dksX9_ifUse_1 0 rfl rfl)
theorem dX9_ifUse_27 : decode cX9_ifUse 27 = .ok (.ifCond .ne 11, 3) := dk_154 0 11 (dk_at dksX9_ifUse_1 3 rfl rfl)
theorem dX9_ifUse_30 : decode cX9_ifUse 30 = .ok (.aload_n 0, 1) := dk_42 (dk_at dksX9_ifUse_1 6 rfl rfl)
theorem dX9_ifUse_31 : decode cX9_ifUse 31 = .ok (.iload_n 1, 1) := dk_27 (dk_at dksX9_ifUse_1 7 rfl rfl)
theorem dX9_ifUse_32 : decode cX9_ifUse 32 = .ok (.invokevirtual 317, 3) := dk_182 1 61 (dk_at dksX9_ifUse_1 8 rfl rfl)
theorem dX9_ifUse_35 : decode cX9_ifUse 35 = .ok (.ifCond .ne 7, 3) := dk_154 0 7 (dk_at dksX9_ifUse_1 11 rfl rfl)
theorem dX9_ifUse_38 : decode cX9_ifUse 38 = .ok (.ldc_w 326, 3) := dk_19 1 70 (dk_at dksX9_ifUse_1 14 rfl rfl)
theorem dX9_ifUse_41 : decode cX9_ifUse 41 = .ok (.ireturn, 1) := dk_172 (dk_at dksX9_ifUse_1 17 rfl rfl)
theorem dX9_ifUse_42 : decode cX9_ifUse 42 = .ok (.aload_n 0, 1) := dk_42 (dk_at dksX9_ifUse_1 18 rfl rfl)
theorem dX9_ifUse_43 : decode cX9_ifUse 43 = .ok (.iload_n 1, 1) := dk_27 (dk_at dksX9_ifUse_1 19 rfl rfl)
theorem dX9_ifUse_44 : decode cX9_ifUse 44 = .ok (.iload_n 2, 1) := dk_28 (dk_at dksX9_ifUse_1 20 rfl rfl)
theorem dX9_ifUse_45 : decode cX9_ifUse 45 = .ok (.invokevirtual 273, 3) := dk_182 1 17 (dk_at dksX9_ifUse_1 21 rfl rfl)
theorem dX9_ifUse_48 : decode cX9_ifUse 48 = .ok (.ireturn, 1) := dk_172 (dk_at dksX9_ifUse_2 0 rfl rfl)
abbrev cX9_owners : ByteArray := prog_17_method_114_code
def yX9_owners : MethodName := ⟨RX9, "owners", "(I)I"⟩
def dkwX9_owners_4 : List UInt8 := [132, 4, 1, 167, 255, 238, 29, 172]
abbrev dktX9_owners_4 : List UInt8 := dkwX9_owners_4 ++ []
def dkwX9_owners_3 : List UInt8 := [167, 255, 228, 3, 62, 3, 54, 4, 21, 4, 7, 162, 0, 18, 29, 28, 21, 4, 122, 4, 126, 96, 62]
abbrev dktX9_owners_3 : List UInt8 := dkwX9_owners_3 ++ dktX9_owners_4
def dkwX9_owners_2 : List UInt8 := [182, 1, 0, 162, 0, 23, 28, 4, 42, 27, 16, 37, 29, 96, 182, 1, 0, 120, 128, 61, 132, 3, 1]
abbrev dktX9_owners_2 : List UInt8 := dkwX9_owners_2 ++ dktX9_owners_3
def dkwX9_owners_1 : List UInt8 := [160, 0, 7, 3, 167, 0, 11, 4, 42, 27, 3, 182, 1, 0, 120, 61, 3, 62, 29, 42, 27, 16, 47]
abbrev dktX9_owners_1 : List UInt8 := dkwX9_owners_1 ++ dktX9_owners_2
def dkwX9_owners_0 : List UInt8 := [42, 3, 181, 0, 49, 42, 27, 182, 1, 46, 154, 0, 5, 2, 172, 42, 27, 16, 9, 182, 1, 0, 4]
abbrev dktX9_owners_0 : List UInt8 := dkwX9_owners_0 ++ dktX9_owners_1
theorem dksX9_owners_0 : cX9_owners.data.toList.drop 0 = dktX9_owners_0 := by decide +kernel
theorem dksX9_owners_1 : cX9_owners.data.toList.drop 23 = dktX9_owners_1 := dk_seg dksX9_owners_0 23 rfl rfl
theorem dksX9_owners_2 : cX9_owners.data.toList.drop 46 = dktX9_owners_2 := dk_seg dksX9_owners_1 23 rfl rfl
theorem dksX9_owners_3 : cX9_owners.data.toList.drop 69 = dktX9_owners_3 := dk_seg dksX9_owners_2 23 rfl rfl
theorem dksX9_owners_4 : cX9_owners.data.toList.drop 92 = dktX9_owners_4 := dk_seg dksX9_owners_3 23 rfl rfl
theorem dX9_owners_0 : decode cX9_owners 0 = .ok (.aload_n 0, 1) := dk_42 (dk_at dksX9_owners_0 0 rfl rfl)
theorem dX9_owners_1 : decode cX9_owners 1 = .ok (.iconst 0, 1) := dk_3 (dk_at dksX9_owners_0 1 rfl rfl)
theorem dX9_owners_2 : decode cX9_owners 2 = .ok (.putfield 49, 3) := dk_181 0 49 (dk_at dksX9_owners_0 2 rfl rfl)
theorem dX9_owners_5 : decode cX9_owners 5 = .ok (.aload_n 0, 1) := dk_42 (dk_at dksX9_owners_0 5 rfl rfl)
theorem dX9_owners_6 : decode cX9_owners 6 = .ok (.iload_n 1, 1) := dk_27 (dk_at dksX9_owners_0 6 rfl rfl)
theorem dX9_owners_7 : decode cX9_owners 7 = .ok (.invokevirtual 302, 3) := dk_182 1 46 (dk_at dksX9_owners_0 7 rfl rfl)
theorem dX9_owners_10 : decode cX9_owners 10 = .ok (.ifCond .ne 5, 3) := dk_154 0 5 (dk_at dksX9_owners_0 10 rfl rfl)
theorem dX9_owners_13 : decode cX9_owners 13 = .ok (.iconst (-1), 1) := dk_2 (dk_at dksX9_owners_0 13 rfl rfl)
theorem dX9_owners_14 : decode cX9_owners 14 = .ok (.ireturn, 1) := dk_172 (dk_at dksX9_owners_0 14 rfl rfl)
theorem dX9_owners_15 : decode cX9_owners 15 = .ok (.aload_n 0, 1) := dk_42 (dk_at dksX9_owners_0 15 rfl rfl)
theorem dX9_owners_16 : decode cX9_owners 16 = .ok (.iload_n 1, 1) := dk_27 (dk_at dksX9_owners_0 16 rfl rfl)
theorem dX9_owners_17 : decode cX9_owners 17 = .ok (.bipush 9, 2) := dk_16 9 (dk_at dksX9_owners_0 17 rfl rfl)
theorem dX9_owners_19 : decode cX9_owners 19 = .ok (.invokevirtual 256, 3) := dk_182 1 0 (dk_at dksX9_owners_0 19 rfl rfl)
theorem dX9_owners_22 : decode cX9_owners 22 = .ok (.iconst 1, 1) := dk_4 (dk_at dksX9_owners_0 22 rfl rfl)
theorem dX9_owners_23 : decode cX9_owners 23 = .ok (.if_icmp .ne 7, 3) := dk_160 0 7 (dk_at dksX9_owners_1 0 rfl rfl)
theorem dX9_owners_26 : decode cX9_owners 26 = .ok (.iconst 0, 1) := dk_3 (dk_at dksX9_owners_1 3 rfl rfl)
theorem dX9_owners_27 : decode cX9_owners 27 = .ok (.goto 11, 3) := dk_167 0 11 (dk_at dksX9_owners_1 4 rfl rfl)
theorem dX9_owners_30 : decode cX9_owners 30 = .ok (.iconst 1, 1) := dk_4 (dk_at dksX9_owners_1 7 rfl rfl)
theorem dX9_owners_31 : decode cX9_owners 31 = .ok (.aload_n 0, 1) := dk_42 (dk_at dksX9_owners_1 8 rfl rfl)
theorem dX9_owners_32 : decode cX9_owners 32 = .ok (.iload_n 1, 1) := dk_27 (dk_at dksX9_owners_1 9 rfl rfl)
theorem dX9_owners_33 : decode cX9_owners 33 = .ok (.iconst 0, 1) := dk_3 (dk_at dksX9_owners_1 10 rfl rfl)
theorem dX9_owners_34 : decode cX9_owners 34 = .ok (.invokevirtual 256, 3) := dk_182 1 0 (dk_at dksX9_owners_1 11 rfl rfl)
theorem dX9_owners_37 : decode cX9_owners 37 = .ok (.ishl, 1) := dk_120 (dk_at dksX9_owners_1 14 rfl rfl)
theorem dX9_owners_38 : decode cX9_owners 38 = .ok (.istore_n 2, 1) := dk_61 (dk_at dksX9_owners_1 15 rfl rfl)
theorem dX9_owners_39 : decode cX9_owners 39 = .ok (.iconst 0, 1) := dk_3 (dk_at dksX9_owners_1 16 rfl rfl)
theorem dX9_owners_40 : decode cX9_owners 40 = .ok (.istore_n 3, 1) := dk_62 (dk_at dksX9_owners_1 17 rfl rfl)
theorem dX9_owners_41 : decode cX9_owners 41 = .ok (.iload_n 3, 1) := dk_29 (dk_at dksX9_owners_1 18 rfl rfl)
theorem dX9_owners_42 : decode cX9_owners 42 = .ok (.aload_n 0, 1) := dk_42 (dk_at dksX9_owners_1 19 rfl rfl)
theorem dX9_owners_43 : decode cX9_owners 43 = .ok (.iload_n 1, 1) := dk_27 (dk_at dksX9_owners_1 20 rfl rfl)
theorem dX9_owners_44 : decode cX9_owners 44 = .ok (.bipush 47, 2) := dk_16 47 (dk_at dksX9_owners_1 21 rfl rfl)
theorem dX9_owners_46 : decode cX9_owners 46 = .ok (.invokevirtual 256, 3) := dk_182 1 0 (dk_at dksX9_owners_2 0 rfl rfl)
theorem dX9_owners_49 : decode cX9_owners 49 = .ok (.if_icmp .ge 23, 3) := dk_162 0 23 (dk_at dksX9_owners_2 3 rfl rfl)
theorem dX9_owners_52 : decode cX9_owners 52 = .ok (.iload_n 2, 1) := dk_28 (dk_at dksX9_owners_2 6 rfl rfl)
theorem dX9_owners_53 : decode cX9_owners 53 = .ok (.iconst 1, 1) := dk_4 (dk_at dksX9_owners_2 7 rfl rfl)
theorem dX9_owners_54 : decode cX9_owners 54 = .ok (.aload_n 0, 1) := dk_42 (dk_at dksX9_owners_2 8 rfl rfl)
theorem dX9_owners_55 : decode cX9_owners 55 = .ok (.iload_n 1, 1) := dk_27 (dk_at dksX9_owners_2 9 rfl rfl)
theorem dX9_owners_56 : decode cX9_owners 56 = .ok (.bipush 37, 2) := dk_16 37 (dk_at dksX9_owners_2 10 rfl rfl)
theorem dX9_owners_58 : decode cX9_owners 58 = .ok (.iload_n 3, 1) := dk_29 (dk_at dksX9_owners_2 12 rfl rfl)
theorem dX9_owners_59 : decode cX9_owners 59 = .ok (.iadd, 1) := dk_96 (dk_at dksX9_owners_2 13 rfl rfl)
theorem dX9_owners_60 : decode cX9_owners 60 = .ok (.invokevirtual 256, 3) := dk_182 1 0 (dk_at dksX9_owners_2 14 rfl rfl)
theorem dX9_owners_63 : decode cX9_owners 63 = .ok (.ishl, 1) := dk_120 (dk_at dksX9_owners_2 17 rfl rfl)
theorem dX9_owners_64 : decode cX9_owners 64 = .ok (.ior, 1) := dk_128 (dk_at dksX9_owners_2 18 rfl rfl)
theorem dX9_owners_65 : decode cX9_owners 65 = .ok (.istore_n 2, 1) := dk_61 (dk_at dksX9_owners_2 19 rfl rfl)
theorem dX9_owners_66 : decode cX9_owners 66 = .ok (.iinc 3 1, 3) := dk_132 3 1 (dk_at dksX9_owners_2 20 rfl rfl)
theorem dX9_owners_69 : decode cX9_owners 69 = .ok (.goto (-28), 3) := dk_167 255 228 (dk_at dksX9_owners_3 0 rfl rfl)
theorem dX9_owners_72 : decode cX9_owners 72 = .ok (.iconst 0, 1) := dk_3 (dk_at dksX9_owners_3 3 rfl rfl)
theorem dX9_owners_73 : decode cX9_owners 73 = .ok (.istore_n 3, 1) := dk_62 (dk_at dksX9_owners_3 4 rfl rfl)
theorem dX9_owners_74 : decode cX9_owners 74 = .ok (.iconst 0, 1) := dk_3 (dk_at dksX9_owners_3 5 rfl rfl)
theorem dX9_owners_75 : decode cX9_owners 75 = .ok (.istore 4, 2) := dk_54 4 (dk_at dksX9_owners_3 6 rfl rfl)
theorem dX9_owners_77 : decode cX9_owners 77 = .ok (.iload 4, 2) := dk_21 4 (dk_at dksX9_owners_3 8 rfl rfl)
theorem dX9_owners_79 : decode cX9_owners 79 = .ok (.iconst 4, 1) := dk_7 (dk_at dksX9_owners_3 10 rfl rfl)
theorem dX9_owners_80 : decode cX9_owners 80 = .ok (.if_icmp .ge 18, 3) := dk_162 0 18 (dk_at dksX9_owners_3 11 rfl rfl)
theorem dX9_owners_83 : decode cX9_owners 83 = .ok (.iload_n 3, 1) := dk_29 (dk_at dksX9_owners_3 14 rfl rfl)
theorem dX9_owners_84 : decode cX9_owners 84 = .ok (.iload_n 2, 1) := dk_28 (dk_at dksX9_owners_3 15 rfl rfl)
theorem dX9_owners_85 : decode cX9_owners 85 = .ok (.iload 4, 2) := dk_21 4 (dk_at dksX9_owners_3 16 rfl rfl)
theorem dX9_owners_87 : decode cX9_owners 87 = .ok (.ishr, 1) := dk_122 (dk_at dksX9_owners_3 18 rfl rfl)
theorem dX9_owners_88 : decode cX9_owners 88 = .ok (.iconst 1, 1) := dk_4 (dk_at dksX9_owners_3 19 rfl rfl)
theorem dX9_owners_89 : decode cX9_owners 89 = .ok (.iand, 1) := dk_126 (dk_at dksX9_owners_3 20 rfl rfl)
theorem dX9_owners_90 : decode cX9_owners 90 = .ok (.iadd, 1) := dk_96 (dk_at dksX9_owners_3 21 rfl rfl)
theorem dX9_owners_91 : decode cX9_owners 91 = .ok (.istore_n 3, 1) := dk_62 (dk_at dksX9_owners_3 22 rfl rfl)
theorem dX9_owners_92 : decode cX9_owners 92 = .ok (.iinc 4 1, 3) := dk_132 4 1 (dk_at dksX9_owners_4 0 rfl rfl)
theorem dX9_owners_95 : decode cX9_owners 95 = .ok (.goto (-18), 3) := dk_167 255 238 (dk_at dksX9_owners_4 3 rfl rfl)
theorem dX9_owners_98 : decode cX9_owners 98 = .ok (.iload_n 3, 1) := dk_29 (dk_at dksX9_owners_4 6 rfl rfl)
theorem dX9_owners_99 : decode cX9_owners 99 = .ok (.ireturn, 1) := dk_172 (dk_at dksX9_owners_4 7 rfl rfl)
abbrev cX9_even : ByteArray := prog_17_method_115_code
def yX9_even : MethodName := ⟨RX9, "even", "(II)I"⟩
def dkwX9_even_3 : List UInt8 := [172, 132, 3, 1, 167, 255, 222, 16, 254, 172]
abbrev dktX9_even_3 : List UInt8 := dkwX9_even_3 ++ []
def dkwX9_even_2 : List UInt8 := [46, 163, 0, 30, 42, 27, 29, 42, 27, 16, 6, 182, 1, 0, 182, 1, 24, 28, 133, 148, 155, 0, 5, 29]
abbrev dktX9_even_2 : List UInt8 := dkwX9_even_2 ++ dktX9_even_3
def dkwX9_even_1 : List UInt8 := [154, 0, 5, 2, 172, 42, 27, 182, 1, 61, 154, 0, 6, 16, 253, 172, 3, 62, 29, 42, 180, 0, 32, 4]
abbrev dktX9_even_1 : List UInt8 := dkwX9_even_1 ++ dktX9_even_2
def dkwX9_even_0 : List UInt8 := [42, 3, 181, 0, 49, 42, 27, 182, 1, 46, 153, 0, 15, 28, 19, 1, 79, 18, 87, 184, 0, 124]
abbrev dktX9_even_0 : List UInt8 := dkwX9_even_0 ++ dktX9_even_1
theorem dksX9_even_0 : cX9_even.data.toList.drop 0 = dktX9_even_0 := by decide +kernel
theorem dksX9_even_1 : cX9_even.data.toList.drop 22 = dktX9_even_1 := dk_seg dksX9_even_0 22 rfl rfl
theorem dksX9_even_2 : cX9_even.data.toList.drop 46 = dktX9_even_2 := dk_seg dksX9_even_1 24 rfl rfl
theorem dksX9_even_3 : cX9_even.data.toList.drop 70 = dktX9_even_3 := dk_seg dksX9_even_2 24 rfl rfl
theorem dX9_even_0 : decode cX9_even 0 = .ok (.aload_n 0, 1) := dk_42 (dk_at dksX9_even_0 0 rfl rfl)
theorem dX9_even_1 : decode cX9_even 1 = .ok (.iconst 0, 1) := dk_3 (dk_at dksX9_even_0 1 rfl rfl)
theorem dX9_even_2 : decode cX9_even 2 = .ok (.putfield 49, 3) := dk_181 0 49 (dk_at dksX9_even_0 2 rfl rfl)
theorem dX9_even_5 : decode cX9_even 5 = .ok (.aload_n 0, 1) := dk_42 (dk_at dksX9_even_0 5 rfl rfl)
theorem dX9_even_6 : decode cX9_even 6 = .ok (.iload_n 1, 1) := dk_27 (dk_at dksX9_even_0 6 rfl rfl)
theorem dX9_even_7 : decode cX9_even 7 = .ok (.invokevirtual 302, 3) := dk_182 1 46 (dk_at dksX9_even_0 7 rfl rfl)
theorem dX9_even_10 : decode cX9_even 10 = .ok (.ifCond .eq 15, 3) := dk_153 0 15 (dk_at dksX9_even_0 10 rfl rfl)
theorem dX9_even_13 : decode cX9_even 13 = .ok (.iload_n 2, 1) := dk_28 (dk_at dksX9_even_0 13 rfl rfl)
theorem dX9_even_14 : decode cX9_even 14 = .ok (.ldc_w 335, 3) := dk_19 1 79 (dk_at dksX9_even_0 14 rfl rfl)
theorem dX9_even_17 : decode cX9_even 17 = .ok (.ldc 87, 2) := dk_18 87 (dk_at dksX9_even_0 17 rfl rfl)
theorem dX9_even_19 : decode cX9_even 19 = .ok (.invokestatic 124, 3) := dk_184 0 124 (dk_at dksX9_even_0 19 rfl rfl)
theorem dX9_even_22 : decode cX9_even 22 = .ok (.ifCond .ne 5, 3) := dk_154 0 5 (dk_at dksX9_even_1 0 rfl rfl)
theorem dX9_even_25 : decode cX9_even 25 = .ok (.iconst (-1), 1) := dk_2 (dk_at dksX9_even_1 3 rfl rfl)
theorem dX9_even_26 : decode cX9_even 26 = .ok (.ireturn, 1) := dk_172 (dk_at dksX9_even_1 4 rfl rfl)
theorem dX9_even_27 : decode cX9_even 27 = .ok (.aload_n 0, 1) := dk_42 (dk_at dksX9_even_1 5 rfl rfl)
theorem dX9_even_28 : decode cX9_even 28 = .ok (.iload_n 1, 1) := dk_27 (dk_at dksX9_even_1 6 rfl rfl)
theorem dX9_even_29 : decode cX9_even 29 = .ok (.invokevirtual 317, 3) := dk_182 1 61 (dk_at dksX9_even_1 7 rfl rfl)
theorem dX9_even_32 : decode cX9_even 32 = .ok (.ifCond .ne 6, 3) := dk_154 0 6 (dk_at dksX9_even_1 10 rfl rfl)
theorem dX9_even_35 : decode cX9_even 35 = .ok (.bipush (-3), 2) := dk_16 253 (dk_at dksX9_even_1 13 rfl rfl)
theorem dX9_even_37 : decode cX9_even 37 = .ok (.ireturn, 1) := dk_172 (dk_at dksX9_even_1 15 rfl rfl)
theorem dX9_even_38 : decode cX9_even 38 = .ok (.iconst 0, 1) := dk_3 (dk_at dksX9_even_1 16 rfl rfl)
theorem dX9_even_39 : decode cX9_even 39 = .ok (.istore_n 3, 1) := dk_62 (dk_at dksX9_even_1 17 rfl rfl)
theorem dX9_even_40 : decode cX9_even 40 = .ok (.iload_n 3, 1) := dk_29 (dk_at dksX9_even_1 18 rfl rfl)
theorem dX9_even_41 : decode cX9_even 41 = .ok (.aload_n 0, 1) := dk_42 (dk_at dksX9_even_1 19 rfl rfl)
theorem dX9_even_42 : decode cX9_even 42 = .ok (.getfield 32, 3) := dk_180 0 32 (dk_at dksX9_even_1 20 rfl rfl)
theorem dX9_even_45 : decode cX9_even 45 = .ok (.iconst 1, 1) := dk_4 (dk_at dksX9_even_1 23 rfl rfl)
theorem dX9_even_46 : decode cX9_even 46 = .ok (.iaload, 1) := dk_46 (dk_at dksX9_even_2 0 rfl rfl)
theorem dX9_even_47 : decode cX9_even 47 = .ok (.if_icmp .gt 30, 3) := dk_163 0 30 (dk_at dksX9_even_2 1 rfl rfl)
theorem dX9_even_50 : decode cX9_even 50 = .ok (.aload_n 0, 1) := dk_42 (dk_at dksX9_even_2 4 rfl rfl)
theorem dX9_even_51 : decode cX9_even 51 = .ok (.iload_n 1, 1) := dk_27 (dk_at dksX9_even_2 5 rfl rfl)
theorem dX9_even_52 : decode cX9_even 52 = .ok (.iload_n 3, 1) := dk_29 (dk_at dksX9_even_2 6 rfl rfl)
theorem dX9_even_53 : decode cX9_even 53 = .ok (.aload_n 0, 1) := dk_42 (dk_at dksX9_even_2 7 rfl rfl)
theorem dX9_even_54 : decode cX9_even 54 = .ok (.iload_n 1, 1) := dk_27 (dk_at dksX9_even_2 8 rfl rfl)
theorem dX9_even_55 : decode cX9_even 55 = .ok (.bipush 6, 2) := dk_16 6 (dk_at dksX9_even_2 9 rfl rfl)
theorem dX9_even_57 : decode cX9_even 57 = .ok (.invokevirtual 256, 3) := dk_182 1 0 (dk_at dksX9_even_2 11 rfl rfl)
theorem dX9_even_60 : decode cX9_even 60 = .ok (.invokevirtual 280, 3) := dk_182 1 24 (dk_at dksX9_even_2 14 rfl rfl)
theorem dX9_even_63 : decode cX9_even 63 = .ok (.iload_n 2, 1) := dk_28 (dk_at dksX9_even_2 17 rfl rfl)
theorem dX9_even_64 : decode cX9_even 64 = .ok (.i2l, 1) := dk_133 (dk_at dksX9_even_2 18 rfl rfl)
theorem dX9_even_65 : decode cX9_even 65 = .ok (.lcmp, 1) := dk_148 (dk_at dksX9_even_2 19 rfl rfl)
theorem dX9_even_66 : decode cX9_even 66 = .ok (.ifCond .lt 5, 3) := dk_155 0 5 (dk_at dksX9_even_2 20 rfl rfl)
theorem dX9_even_69 : decode cX9_even 69 = .ok (.iload_n 3, 1) := dk_29 (dk_at dksX9_even_2 23 rfl rfl)
theorem dX9_even_70 : decode cX9_even 70 = .ok (.ireturn, 1) := dk_172 (dk_at dksX9_even_3 0 rfl rfl)
theorem dX9_even_71 : decode cX9_even 71 = .ok (.iinc 3 1, 3) := dk_132 3 1 (dk_at dksX9_even_3 1 rfl rfl)
theorem dX9_even_74 : decode cX9_even 74 = .ok (.goto (-34), 3) := dk_167 255 222 (dk_at dksX9_even_3 4 rfl rfl)
theorem dX9_even_77 : decode cX9_even 77 = .ok (.bipush (-2), 2) := dk_16 254 (dk_at dksX9_even_3 7 rfl rfl)
theorem dX9_even_79 : decode cX9_even 79 = .ok (.ireturn, 1) := dk_172 (dk_at dksX9_even_3 9 rfl rfl)
abbrev cX9_worth : ByteArray := prog_17_method_116_code
def yX9_worth : MethodName := ⟨RX9, "worth", "(I)I"⟩
def dkwX9_worth_1 : List UInt8 := [160, 0, 8, 16, 254, 167, 0, 14, 42, 27, 42, 27, 5, 182, 1, 0, 182, 1, 17, 172]
abbrev dktX9_worth_1 : List UInt8 := dkwX9_worth_1 ++ []
def dkwX9_worth_0 : List UInt8 := [42, 3, 181, 0, 49, 42, 27, 182, 1, 46, 154, 0, 5, 2, 172, 42, 27, 16, 9, 182, 1, 0, 4]
abbrev dktX9_worth_0 : List UInt8 := dkwX9_worth_0 ++ dktX9_worth_1
theorem dksX9_worth_0 : cX9_worth.data.toList.drop 0 = dktX9_worth_0 := by decide +kernel
theorem dksX9_worth_1 : cX9_worth.data.toList.drop 23 = dktX9_worth_1 := dk_seg dksX9_worth_0 23 rfl rfl
theorem dX9_worth_0 : decode cX9_worth 0 = .ok (.aload_n 0, 1) := dk_42 (dk_at dksX9_worth_0 0 rfl rfl)
theorem dX9_worth_1 : decode cX9_worth 1 = .ok (.iconst 0, 1) := dk_3 (dk_at dksX9_worth_0 1 rfl rfl)
theorem dX9_worth_2 : decode cX9_worth 2 = .ok (.putfield 49, 3) := dk_181 0 49 (dk_at dksX9_worth_0 2 rfl rfl)
theorem dX9_worth_5 : decode cX9_worth 5 = .ok (.aload_n 0, 1) := dk_42 (dk_at dksX9_worth_0 5 rfl rfl)
theorem dX9_worth_6 : decode cX9_worth 6 = .ok (.iload_n 1, 1) := dk_27 (dk_at dksX9_worth_0 6 rfl rfl)
theorem dX9_worth_7 : decode cX9_worth 7 = .ok (.invokevirtual 302, 3) := dk_182 1 46 (dk_at dksX9_worth_0 7 rfl rfl)
theorem dX9_worth_10 : decode cX9_worth 10 = .ok (.ifCond .ne 5, 3) := dk_154 0 5 (dk_at dksX9_worth_0 10 rfl rfl)
theorem dX9_worth_13 : decode cX9_worth 13 = .ok (.iconst (-1), 1) := dk_2 (dk_at dksX9_worth_0 13 rfl rfl)
theorem dX9_worth_14 : decode cX9_worth 14 = .ok (.ireturn, 1) := dk_172 (dk_at dksX9_worth_0 14 rfl rfl)
theorem dX9_worth_15 : decode cX9_worth 15 = .ok (.aload_n 0, 1) := dk_42 (dk_at dksX9_worth_0 15 rfl rfl)
theorem dX9_worth_16 : decode cX9_worth 16 = .ok (.iload_n 1, 1) := dk_27 (dk_at dksX9_worth_0 16 rfl rfl)
theorem dX9_worth_17 : decode cX9_worth 17 = .ok (.bipush 9, 2) := dk_16 9 (dk_at dksX9_worth_0 17 rfl rfl)
theorem dX9_worth_19 : decode cX9_worth 19 = .ok (.invokevirtual 256, 3) := dk_182 1 0 (dk_at dksX9_worth_0 19 rfl rfl)
theorem dX9_worth_22 : decode cX9_worth 22 = .ok (.iconst 1, 1) := dk_4 (dk_at dksX9_worth_0 22 rfl rfl)
theorem dX9_worth_23 : decode cX9_worth 23 = .ok (.if_icmp .ne 8, 3) := dk_160 0 8 (dk_at dksX9_worth_1 0 rfl rfl)
theorem dX9_worth_26 : decode cX9_worth 26 = .ok (.bipush (-2), 2) := dk_16 254 (dk_at dksX9_worth_1 3 rfl rfl)
theorem dX9_worth_28 : decode cX9_worth 28 = .ok (.goto 14, 3) := dk_167 0 14 (dk_at dksX9_worth_1 5 rfl rfl)
theorem dX9_worth_31 : decode cX9_worth 31 = .ok (.aload_n 0, 1) := dk_42 (dk_at dksX9_worth_1 8 rfl rfl)
theorem dX9_worth_32 : decode cX9_worth 32 = .ok (.iload_n 1, 1) := dk_27 (dk_at dksX9_worth_1 9 rfl rfl)
theorem dX9_worth_33 : decode cX9_worth 33 = .ok (.aload_n 0, 1) := dk_42 (dk_at dksX9_worth_1 10 rfl rfl)
theorem dX9_worth_34 : decode cX9_worth 34 = .ok (.iload_n 1, 1) := dk_27 (dk_at dksX9_worth_1 11 rfl rfl)
theorem dX9_worth_35 : decode cX9_worth 35 = .ok (.iconst 2, 1) := dk_5 (dk_at dksX9_worth_1 12 rfl rfl)
theorem dX9_worth_36 : decode cX9_worth 36 = .ok (.invokevirtual 256, 3) := dk_182 1 0 (dk_at dksX9_worth_1 13 rfl rfl)
theorem dX9_worth_39 : decode cX9_worth 39 = .ok (.invokevirtual 273, 3) := dk_182 1 17 (dk_at dksX9_worth_1 16 rfl rfl)
theorem dX9_worth_42 : decode cX9_worth 42 = .ok (.ireturn, 1) := dk_172 (dk_at dksX9_worth_1 19 rfl rfl)
abbrev cX9_tried : ByteArray := prog_17_method_118_code
def yX9_tried : MethodName := ⟨RX9, "tried", "(III)I"⟩
def dkwX9_tried_4 : List UInt8 := [182, 0, 174, 21, 4, 100, 54, 5, 42, 3, 181, 0, 101, 21, 5, 172]
abbrev dktX9_tried_4 : List UInt8 := dkwX9_tried_4 ++ []
def dkwX9_tried_3 : List UInt8 := [27, 162, 0, 13, 42, 182, 1, 55, 132, 5, 1, 167, 255, 243, 42, 17, 8, 20, 7, 28, 104, 96, 29, 96]
abbrev dktX9_tried_3 : List UInt8 := dkwX9_tried_3 ++ dktX9_tried_4
def dkwX9_tried_2 : List UInt8 := [42, 182, 1, 80, 42, 17, 8, 20, 7, 28, 104, 96, 29, 96, 182, 0, 174, 54, 4, 3, 54, 5, 21, 5]
abbrev dktX9_tried_2 : List UInt8 := dkwX9_tried_2 ++ dktX9_tried_3
def dkwX9_tried_1 : List UInt8 := [3, 6, 184, 0, 124, 153, 0, 15, 42, 3, 182, 0, 174, 27, 96, 16, 63, 164, 0, 7, 19, 1, 70, 172]
abbrev dktX9_tried_1 : List UInt8 := dkwX9_tried_1 ++ dktX9_tried_2
def dkwX9_tried_0 : List UInt8 := [42, 3, 181, 0, 49, 27, 4, 16, 16, 184, 0, 124, 153, 0, 32, 42, 28, 182, 1, 40, 153, 0, 24, 29]
abbrev dktX9_tried_0 : List UInt8 := dkwX9_tried_0 ++ dktX9_tried_1
theorem dksX9_tried_0 : cX9_tried.data.toList.drop 0 = dktX9_tried_0 := by decide +kernel
theorem dksX9_tried_1 : cX9_tried.data.toList.drop 24 = dktX9_tried_1 := dk_seg dksX9_tried_0 24 rfl rfl
theorem dksX9_tried_2 : cX9_tried.data.toList.drop 48 = dktX9_tried_2 := dk_seg dksX9_tried_1 24 rfl rfl
theorem dksX9_tried_3 : cX9_tried.data.toList.drop 72 = dktX9_tried_3 := dk_seg dksX9_tried_2 24 rfl rfl
theorem dksX9_tried_4 : cX9_tried.data.toList.drop 96 = dktX9_tried_4 := dk_seg dksX9_tried_3 24 rfl rfl
theorem dX9_tried_0 : decode cX9_tried 0 = .ok (.aload_n 0, 1) := dk_42 (dk_at dksX9_tried_0 0 rfl rfl)
theorem dX9_tried_1 : decode cX9_tried 1 = .ok (.iconst 0, 1) := dk_3 (dk_at dksX9_tried_0 1 rfl rfl)
theorem dX9_tried_2 : decode cX9_tried 2 = .ok (.putfield 49, 3) := dk_181 0 49 (dk_at dksX9_tried_0 2 rfl rfl)
theorem dX9_tried_5 : decode cX9_tried 5 = .ok (.iload_n 1, 1) := dk_27 (dk_at dksX9_tried_0 5 rfl rfl)
theorem dX9_tried_6 : decode cX9_tried 6 = .ok (.iconst 1, 1) := dk_4 (dk_at dksX9_tried_0 6 rfl rfl)
theorem dX9_tried_7 : decode cX9_tried 7 = .ok (.bipush 16, 2) := dk_16 16 (dk_at dksX9_tried_0 7 rfl rfl)
theorem dX9_tried_9 : decode cX9_tried 9 = .ok (.invokestatic 124, 3) := dk_184 0 124 (dk_at dksX9_tried_0 9 rfl rfl)
theorem dX9_tried_12 : decode cX9_tried 12 = .ok (.ifCond .eq 32, 3) := dk_153 0 32 (dk_at dksX9_tried_0 12 rfl rfl)
theorem dX9_tried_15 : decode cX9_tried 15 = .ok (.aload_n 0, 1) := dk_42 (dk_at dksX9_tried_0 15 rfl rfl)
theorem dX9_tried_16 : decode cX9_tried 16 = .ok (.iload_n 2, 1) := dk_28 (dk_at dksX9_tried_0 16 rfl rfl)
theorem dX9_tried_17 : decode cX9_tried 17 = .ok (.invokevirtual 296, 3) := dk_182 1 40 (dk_at dksX9_tried_0 17 rfl rfl)
theorem dX9_tried_20 : decode cX9_tried 20 = .ok (.ifCond .eq 24, 3) := dk_153 0 24 (dk_at dksX9_tried_0 20 rfl rfl)
theorem dX9_tried_23 : decode cX9_tried 23 = .ok (.iload_n 3, 1) := dk_29 (dk_at dksX9_tried_0 23 rfl rfl)
theorem dX9_tried_24 : decode cX9_tried 24 = .ok (.iconst 0, 1) := dk_3 (dk_at dksX9_tried_1 0 rfl rfl)
theorem dX9_tried_25 : decode cX9_tried 25 = .ok (.iconst 3, 1) := dk_6 (dk_at dksX9_tried_1 1 rfl rfl)
theorem dX9_tried_26 : decode cX9_tried 26 = .ok (.invokestatic 124, 3) := dk_184 0 124 (dk_at dksX9_tried_1 2 rfl rfl)
theorem dX9_tried_29 : decode cX9_tried 29 = .ok (.ifCond .eq 15, 3) := dk_153 0 15 (dk_at dksX9_tried_1 5 rfl rfl)
theorem dX9_tried_32 : decode cX9_tried 32 = .ok (.aload_n 0, 1) := dk_42 (dk_at dksX9_tried_1 8 rfl rfl)
theorem dX9_tried_33 : decode cX9_tried 33 = .ok (.iconst 0, 1) := dk_3 (dk_at dksX9_tried_1 9 rfl rfl)
theorem dX9_tried_34 : decode cX9_tried 34 = .ok (.invokevirtual 174, 3) := dk_182 0 174 (dk_at dksX9_tried_1 10 rfl rfl)
theorem dX9_tried_37 : decode cX9_tried 37 = .ok (.iload_n 1, 1) := dk_27 (dk_at dksX9_tried_1 13 rfl rfl)
theorem dX9_tried_38 : decode cX9_tried 38 = .ok (.iadd, 1) := dk_96 (dk_at dksX9_tried_1 14 rfl rfl)
theorem dX9_tried_39 : decode cX9_tried 39 = .ok (.bipush 63, 2) := dk_16 63 (dk_at dksX9_tried_1 15 rfl rfl)
theorem dX9_tried_41 : decode cX9_tried 41 = .ok (.if_icmp .le 7, 3) := dk_164 0 7 (dk_at dksX9_tried_1 17 rfl rfl)
theorem dX9_tried_44 : decode cX9_tried 44 = .ok (.ldc_w 326, 3) := dk_19 1 70 (dk_at dksX9_tried_1 20 rfl rfl)
theorem dX9_tried_47 : decode cX9_tried 47 = .ok (.ireturn, 1) := dk_172 (dk_at dksX9_tried_1 23 rfl rfl)
theorem dX9_tried_48 : decode cX9_tried 48 = .ok (.aload_n 0, 1) := dk_42 (dk_at dksX9_tried_2 0 rfl rfl)
theorem dX9_tried_49 : decode cX9_tried 49 = .ok (.invokevirtual 336, 3) := dk_182 1 80 (dk_at dksX9_tried_2 1 rfl rfl)
theorem dX9_tried_52 : decode cX9_tried 52 = .ok (.aload_n 0, 1) := dk_42 (dk_at dksX9_tried_2 4 rfl rfl)
theorem dX9_tried_53 : decode cX9_tried 53 = .ok (.sipush 2068, 3) := dk_17 8 20 (dk_at dksX9_tried_2 5 rfl rfl)
theorem dX9_tried_56 : decode cX9_tried 56 = .ok (.iconst 4, 1) := dk_7 (dk_at dksX9_tried_2 8 rfl rfl)
theorem dX9_tried_57 : decode cX9_tried 57 = .ok (.iload_n 2, 1) := dk_28 (dk_at dksX9_tried_2 9 rfl rfl)
theorem dX9_tried_58 : decode cX9_tried 58 = .ok (.imul, 1) := dk_104 (dk_at dksX9_tried_2 10 rfl rfl)
theorem dX9_tried_59 : decode cX9_tried 59 = .ok (.iadd, 1) := dk_96 (dk_at dksX9_tried_2 11 rfl rfl)
theorem dX9_tried_60 : decode cX9_tried 60 = .ok (.iload_n 3, 1) := dk_29 (dk_at dksX9_tried_2 12 rfl rfl)
theorem dX9_tried_61 : decode cX9_tried 61 = .ok (.iadd, 1) := dk_96 (dk_at dksX9_tried_2 13 rfl rfl)
theorem dX9_tried_62 : decode cX9_tried 62 = .ok (.invokevirtual 174, 3) := dk_182 0 174 (dk_at dksX9_tried_2 14 rfl rfl)
theorem dX9_tried_65 : decode cX9_tried 65 = .ok (.istore 4, 2) := dk_54 4 (dk_at dksX9_tried_2 17 rfl rfl)
theorem dX9_tried_67 : decode cX9_tried 67 = .ok (.iconst 0, 1) := dk_3 (dk_at dksX9_tried_2 19 rfl rfl)
theorem dX9_tried_68 : decode cX9_tried 68 = .ok (.istore 5, 2) := dk_54 5 (dk_at dksX9_tried_2 20 rfl rfl)
theorem dX9_tried_70 : decode cX9_tried 70 = .ok (.iload 5, 2) := dk_21 5 (dk_at dksX9_tried_2 22 rfl rfl)
theorem dX9_tried_72 : decode cX9_tried 72 = .ok (.iload_n 1, 1) := dk_27 (dk_at dksX9_tried_3 0 rfl rfl)
theorem dX9_tried_73 : decode cX9_tried 73 = .ok (.if_icmp .ge 13, 3) := dk_162 0 13 (dk_at dksX9_tried_3 1 rfl rfl)
theorem dX9_tried_76 : decode cX9_tried 76 = .ok (.aload_n 0, 1) := dk_42 (dk_at dksX9_tried_3 4 rfl rfl)
theorem dX9_tried_77 : decode cX9_tried 77 = .ok (.invokevirtual 311, 3) := dk_182 1 55 (dk_at dksX9_tried_3 5 rfl rfl)
theorem dX9_tried_80 : decode cX9_tried 80 = .ok (.iinc 5 1, 3) := dk_132 5 1 (dk_at dksX9_tried_3 8 rfl rfl)
theorem dX9_tried_83 : decode cX9_tried 83 = .ok (.goto (-13), 3) := dk_167 255 243 (dk_at dksX9_tried_3 11 rfl rfl)
theorem dX9_tried_86 : decode cX9_tried 86 = .ok (.aload_n 0, 1) := dk_42 (dk_at dksX9_tried_3 14 rfl rfl)
theorem dX9_tried_87 : decode cX9_tried 87 = .ok (.sipush 2068, 3) := dk_17 8 20 (dk_at dksX9_tried_3 15 rfl rfl)
theorem dX9_tried_90 : decode cX9_tried 90 = .ok (.iconst 4, 1) := dk_7 (dk_at dksX9_tried_3 18 rfl rfl)
theorem dX9_tried_91 : decode cX9_tried 91 = .ok (.iload_n 2, 1) := dk_28 (dk_at dksX9_tried_3 19 rfl rfl)
theorem dX9_tried_92 : decode cX9_tried 92 = .ok (.imul, 1) := dk_104 (dk_at dksX9_tried_3 20 rfl rfl)
theorem dX9_tried_93 : decode cX9_tried 93 = .ok (.iadd, 1) := dk_96 (dk_at dksX9_tried_3 21 rfl rfl)
theorem dX9_tried_94 : decode cX9_tried 94 = .ok (.iload_n 3, 1) := dk_29 (dk_at dksX9_tried_3 22 rfl rfl)
theorem dX9_tried_95 : decode cX9_tried 95 = .ok (.iadd, 1) := dk_96 (dk_at dksX9_tried_3 23 rfl rfl)
theorem dX9_tried_96 : decode cX9_tried 96 = .ok (.invokevirtual 174, 3) := dk_182 0 174 (dk_at dksX9_tried_4 0 rfl rfl)
theorem dX9_tried_99 : decode cX9_tried 99 = .ok (.iload 4, 2) := dk_21 4 (dk_at dksX9_tried_4 3 rfl rfl)
theorem dX9_tried_101 : decode cX9_tried 101 = .ok (.isub, 1) := dk_100 (dk_at dksX9_tried_4 5 rfl rfl)
theorem dX9_tried_102 : decode cX9_tried 102 = .ok (.istore 5, 2) := dk_54 5 (dk_at dksX9_tried_4 6 rfl rfl)
theorem dX9_tried_104 : decode cX9_tried 104 = .ok (.aload_n 0, 1) := dk_42 (dk_at dksX9_tried_4 8 rfl rfl)
theorem dX9_tried_105 : decode cX9_tried 105 = .ok (.iconst 0, 1) := dk_3 (dk_at dksX9_tried_4 9 rfl rfl)
theorem dX9_tried_106 : decode cX9_tried 106 = .ok (.putfield 101, 3) := dk_181 0 101 (dk_at dksX9_tried_4 10 rfl rfl)
theorem dX9_tried_109 : decode cX9_tried 109 = .ok (.iload 5, 2) := dk_21 5 (dk_at dksX9_tried_4 13 rfl rfl)
theorem dX9_tried_111 : decode cX9_tried 111 = .ok (.ireturn, 1) := dk_172 (dk_at dksX9_tried_4 15 rfl rfl)
abbrev cX9_asNow : ByteArray := prog_17_method_117_code
def yX9_asNow : MethodName := ⟨RX9, "asNow", "()V"⟩
def dkwX9_asNow_0 : List UInt8 := [42, 3, 4, 182, 0, 178, 42, 4, 181, 0, 101, 177]
abbrev dktX9_asNow_0 : List UInt8 := dkwX9_asNow_0 ++ []
theorem dksX9_asNow_0 : cX9_asNow.data.toList.drop 0 = dktX9_asNow_0 := by decide +kernel
theorem dX9_asNow_0 : decode cX9_asNow 0 = .ok (.aload_n 0, 1) := dk_42 (dk_at dksX9_asNow_0 0 rfl rfl)
theorem dX9_asNow_1 : decode cX9_asNow 1 = .ok (.iconst 0, 1) := dk_3 (dk_at dksX9_asNow_0 1 rfl rfl)
theorem dX9_asNow_2 : decode cX9_asNow 2 = .ok (.iconst 1, 1) := dk_4 (dk_at dksX9_asNow_0 2 rfl rfl)
theorem dX9_asNow_3 : decode cX9_asNow 3 = .ok (.invokevirtual 178, 3) := dk_182 0 178 (dk_at dksX9_asNow_0 3 rfl rfl)
theorem dX9_asNow_6 : decode cX9_asNow 6 = .ok (.aload_n 0, 1) := dk_42 (dk_at dksX9_asNow_0 6 rfl rfl)
theorem dX9_asNow_7 : decode cX9_asNow 7 = .ok (.iconst 1, 1) := dk_4 (dk_at dksX9_asNow_0 7 rfl rfl)
theorem dX9_asNow_8 : decode cX9_asNow 8 = .ok (.putfield 101, 3) := dk_181 0 101 (dk_at dksX9_asNow_0 8 rfl rfl)
theorem dX9_asNow_11 : decode cX9_asNow 11 = .ok (.return_, 1) := dk_177 (dk_at dksX9_asNow_0 11 rfl rfl)
abbrev cX9_chance : ByteArray := prog_17_method_121_code
def yX9_chance : MethodName := ⟨RX9, "chance", "(III)I"⟩
def dkwX9_chance_6 : List UInt8 := [29, 182, 1, 94, 21, 4, 100, 54, 5, 42, 3, 181, 0, 101, 21, 5, 172]
abbrev dktX9_chance_6 : List UInt8 := dkwX9_chance_6 ++ []
def dkwX9_chance_5 : List UInt8 := [182, 0, 181, 42, 17, 3, 232, 182, 1, 97, 182, 0, 184, 42, 182, 1, 55, 132, 5, 1, 167, 255, 199, 42]
abbrev dktX9_chance_5 : List UInt8 := dkwX9_chance_5 ++ dktX9_chance_6
def dkwX9_chance_4 : List UInt8 := [182, 0, 181, 42, 17, 3, 232, 182, 1, 97, 182, 0, 184, 42, 42, 29, 42, 3, 182, 0, 174, 4]
abbrev dktX9_chance_4 : List UInt8 := dkwX9_chance_4 ++ dktX9_chance_5
def dkwX9_chance_3 : List UInt8 := [182, 1, 94, 54, 4, 3, 54, 5, 21, 5, 28, 162, 0, 57, 42, 42, 29, 42, 3, 182, 0, 174, 3]
abbrev dktX9_chance_3 : List UInt8 := dkwX9_chance_3 ++ dktX9_chance_4
def dkwX9_chance_2 : List UInt8 := [156, 0, 13, 42, 180, 0, 32, 6, 46, 133, 167, 0, 5, 27, 133, 181, 1, 83, 42, 182, 1, 80, 42, 29]
abbrev dktX9_chance_2 : List UInt8 := dkwX9_chance_2 ++ dktX9_chance_3
def dkwX9_chance_1 : List UInt8 := [182, 1, 40, 153, 0, 15, 42, 3, 182, 0, 174, 28, 96, 16, 63, 164, 0, 7, 19, 1, 70, 172, 42, 27]
abbrev dktX9_chance_1 : List UInt8 := dkwX9_chance_1 ++ dktX9_chance_2
def dkwX9_chance_0 : List UInt8 := [42, 3, 181, 0, 49, 27, 2, 161, 0, 33, 28, 4, 16, 8, 184, 0, 124, 153, 0, 23, 42, 29]
abbrev dktX9_chance_0 : List UInt8 := dkwX9_chance_0 ++ dktX9_chance_1
theorem dksX9_chance_0 : cX9_chance.data.toList.drop 0 = dktX9_chance_0 := by decide +kernel
theorem dksX9_chance_1 : cX9_chance.data.toList.drop 22 = dktX9_chance_1 := dk_seg dksX9_chance_0 22 rfl rfl
theorem dksX9_chance_2 : cX9_chance.data.toList.drop 46 = dktX9_chance_2 := dk_seg dksX9_chance_1 24 rfl rfl
theorem dksX9_chance_3 : cX9_chance.data.toList.drop 70 = dktX9_chance_3 := dk_seg dksX9_chance_2 24 rfl rfl
theorem dksX9_chance_4 : cX9_chance.data.toList.drop 93 = dktX9_chance_4 := dk_seg dksX9_chance_3 23 rfl rfl
theorem dksX9_chance_5 : cX9_chance.data.toList.drop 115 = dktX9_chance_5 := dk_seg dksX9_chance_4 22 rfl rfl
theorem dksX9_chance_6 : cX9_chance.data.toList.drop 139 = dktX9_chance_6 := dk_seg dksX9_chance_5 24 rfl rfl
theorem dX9_chance_0 : decode cX9_chance 0 = .ok (.aload_n 0, 1) := dk_42 (dk_at dksX9_chance_0 0 rfl rfl)
theorem dX9_chance_1 : decode cX9_chance 1 = .ok (.iconst 0, 1) := dk_3 (dk_at dksX9_chance_0 1 rfl rfl)
theorem dX9_chance_2 : decode cX9_chance 2 = .ok (.putfield 49, 3) := dk_181 0 49 (dk_at dksX9_chance_0 2 rfl rfl)
theorem dX9_chance_5 : decode cX9_chance 5 = .ok (.iload_n 1, 1) := dk_27 (dk_at dksX9_chance_0 5 rfl rfl)
theorem dX9_chance_6 : decode cX9_chance 6 = .ok (.iconst (-1), 1) := dk_2 (dk_at dksX9_chance_0 6 rfl rfl)
theorem dX9_chance_7 : decode cX9_chance 7 = .ok (.if_icmp .lt 33, 3) := dk_161 0 33 (dk_at dksX9_chance_0 7 rfl rfl)
theorem dX9_chance_10 : decode cX9_chance 10 = .ok (.iload_n 2, 1) := dk_28 (dk_at dksX9_chance_0 10 rfl rfl)
theorem dX9_chance_11 : decode cX9_chance 11 = .ok (.iconst 1, 1) := dk_4 (dk_at dksX9_chance_0 11 rfl rfl)
theorem dX9_chance_12 : decode cX9_chance 12 = .ok (.bipush 8, 2) := dk_16 8 (dk_at dksX9_chance_0 12 rfl rfl)
theorem dX9_chance_14 : decode cX9_chance 14 = .ok (.invokestatic 124, 3) := dk_184 0 124 (dk_at dksX9_chance_0 14 rfl rfl)
theorem dX9_chance_17 : decode cX9_chance 17 = .ok (.ifCond .eq 23, 3) := dk_153 0 23 (dk_at dksX9_chance_0 17 rfl rfl)
theorem dX9_chance_20 : decode cX9_chance 20 = .ok (.aload_n 0, 1) := dk_42 (dk_at dksX9_chance_0 20 rfl rfl)
theorem dX9_chance_21 : decode cX9_chance 21 = .ok (.iload_n 3, 1) := dk_29 (dk_at dksX9_chance_0 21 rfl rfl)
theorem dX9_chance_22 : decode cX9_chance 22 = .ok (.invokevirtual 296, 3) := dk_182 1 40 (dk_at dksX9_chance_1 0 rfl rfl)
theorem dX9_chance_25 : decode cX9_chance 25 = .ok (.ifCond .eq 15, 3) := dk_153 0 15 (dk_at dksX9_chance_1 3 rfl rfl)
theorem dX9_chance_28 : decode cX9_chance 28 = .ok (.aload_n 0, 1) := dk_42 (dk_at dksX9_chance_1 6 rfl rfl)
theorem dX9_chance_29 : decode cX9_chance 29 = .ok (.iconst 0, 1) := dk_3 (dk_at dksX9_chance_1 7 rfl rfl)
theorem dX9_chance_30 : decode cX9_chance 30 = .ok (.invokevirtual 174, 3) := dk_182 0 174 (dk_at dksX9_chance_1 8 rfl rfl)
theorem dX9_chance_33 : decode cX9_chance 33 = .ok (.iload_n 2, 1) := dk_28 (dk_at dksX9_chance_1 11 rfl rfl)
theorem dX9_chance_34 : decode cX9_chance 34 = .ok (.iadd, 1) := dk_96 (dk_at dksX9_chance_1 12 rfl rfl)
theorem dX9_chance_35 : decode cX9_chance 35 = .ok (.bipush 63, 2) := dk_16 63 (dk_at dksX9_chance_1 13 rfl rfl)
theorem dX9_chance_37 : decode cX9_chance 37 = .ok (.if_icmp .le 7, 3) := dk_164 0 7 (dk_at dksX9_chance_1 15 rfl rfl)
theorem dX9_chance_40 : decode cX9_chance 40 = .ok (.ldc_w 326, 3) := dk_19 1 70 (dk_at dksX9_chance_1 18 rfl rfl)
theorem dX9_chance_43 : decode cX9_chance 43 = .ok (.ireturn, 1) := dk_172 (dk_at dksX9_chance_1 21 rfl rfl)
theorem dX9_chance_44 : decode cX9_chance 44 = .ok (.aload_n 0, 1) := dk_42 (dk_at dksX9_chance_1 22 rfl rfl)
theorem dX9_chance_45 : decode cX9_chance 45 = .ok (.iload_n 1, 1) := dk_27 (dk_at dksX9_chance_1 23 rfl rfl)
theorem dX9_chance_46 : decode cX9_chance 46 = .ok (.ifCond .ge 13, 3) := dk_156 0 13 (dk_at dksX9_chance_2 0 rfl rfl)
theorem dX9_chance_49 : decode cX9_chance 49 = .ok (.aload_n 0, 1) := dk_42 (dk_at dksX9_chance_2 3 rfl rfl)
theorem dX9_chance_50 : decode cX9_chance 50 = .ok (.getfield 32, 3) := dk_180 0 32 (dk_at dksX9_chance_2 4 rfl rfl)
theorem dX9_chance_53 : decode cX9_chance 53 = .ok (.iconst 3, 1) := dk_6 (dk_at dksX9_chance_2 7 rfl rfl)
theorem dX9_chance_54 : decode cX9_chance 54 = .ok (.iaload, 1) := dk_46 (dk_at dksX9_chance_2 8 rfl rfl)
theorem dX9_chance_55 : decode cX9_chance 55 = .ok (.i2l, 1) := dk_133 (dk_at dksX9_chance_2 9 rfl rfl)
theorem dX9_chance_56 : decode cX9_chance 56 = .ok (.goto 5, 3) := dk_167 0 5 (dk_at dksX9_chance_2 10 rfl rfl)
theorem dX9_chance_59 : decode cX9_chance 59 = .ok (.iload_n 1, 1) := dk_27 (dk_at dksX9_chance_2 13 rfl rfl)
theorem dX9_chance_60 : decode cX9_chance 60 = .ok (.i2l, 1) := dk_133 (dk_at dksX9_chance_2 14 rfl rfl)
theorem dX9_chance_61 : decode cX9_chance 61 = .ok (.putfield 339, 3) := dk_181 1 83 (dk_at dksX9_chance_2 15 rfl rfl)
theorem dX9_chance_64 : decode cX9_chance 64 = .ok (.aload_n 0, 1) := dk_42 (dk_at dksX9_chance_2 18 rfl rfl)
theorem dX9_chance_65 : decode cX9_chance 65 = .ok (.invokevirtual 336, 3) := dk_182 1 80 (dk_at dksX9_chance_2 19 rfl rfl)
theorem dX9_chance_68 : decode cX9_chance 68 = .ok (.aload_n 0, 1) := dk_42 (dk_at dksX9_chance_2 22 rfl rfl)
theorem dX9_chance_69 : decode cX9_chance 69 = .ok (.iload_n 3, 1) := dk_29 (dk_at dksX9_chance_2 23 rfl rfl)
theorem dX9_chance_70 : decode cX9_chance 70 = .ok (.invokevirtual 350, 3) := dk_182 1 94 (dk_at dksX9_chance_3 0 rfl rfl)
theorem dX9_chance_73 : decode cX9_chance 73 = .ok (.istore 4, 2) := dk_54 4 (dk_at dksX9_chance_3 3 rfl rfl)
theorem dX9_chance_75 : decode cX9_chance 75 = .ok (.iconst 0, 1) := dk_3 (dk_at dksX9_chance_3 5 rfl rfl)
theorem dX9_chance_76 : decode cX9_chance 76 = .ok (.istore 5, 2) := dk_54 5 (dk_at dksX9_chance_3 6 rfl rfl)
theorem dX9_chance_78 : decode cX9_chance 78 = .ok (.iload 5, 2) := dk_21 5 (dk_at dksX9_chance_3 8 rfl rfl)
theorem dX9_chance_80 : decode cX9_chance 80 = .ok (.iload_n 2, 1) := dk_28 (dk_at dksX9_chance_3 10 rfl rfl)
theorem dX9_chance_81 : decode cX9_chance 81 = .ok (.if_icmp .ge 57, 3) := dk_162 0 57 (dk_at dksX9_chance_3 11 rfl rfl)
theorem dX9_chance_84 : decode cX9_chance 84 = .ok (.aload_n 0, 1) := dk_42 (dk_at dksX9_chance_3 14 rfl rfl)
theorem dX9_chance_85 : decode cX9_chance 85 = .ok (.aload_n 0, 1) := dk_42 (dk_at dksX9_chance_3 15 rfl rfl)
theorem dX9_chance_86 : decode cX9_chance 86 = .ok (.iload_n 3, 1) := dk_29 (dk_at dksX9_chance_3 16 rfl rfl)
theorem dX9_chance_87 : decode cX9_chance 87 = .ok (.aload_n 0, 1) := dk_42 (dk_at dksX9_chance_3 17 rfl rfl)
theorem dX9_chance_88 : decode cX9_chance 88 = .ok (.iconst 0, 1) := dk_3 (dk_at dksX9_chance_3 18 rfl rfl)
theorem dX9_chance_89 : decode cX9_chance 89 = .ok (.invokevirtual 174, 3) := dk_182 0 174 (dk_at dksX9_chance_3 19 rfl rfl)
theorem dX9_chance_92 : decode cX9_chance 92 = .ok (.iconst 0, 1) := dk_3 (dk_at dksX9_chance_3 22 rfl rfl)
theorem dX9_chance_93 : decode cX9_chance 93 = .ok (.invokevirtual 181, 3) := dk_182 0 181 (dk_at dksX9_chance_4 0 rfl rfl)
theorem dX9_chance_96 : decode cX9_chance 96 = .ok (.aload_n 0, 1) := dk_42 (dk_at dksX9_chance_4 3 rfl rfl)
theorem dX9_chance_97 : decode cX9_chance 97 = .ok (.sipush 1000, 3) := dk_17 3 232 (dk_at dksX9_chance_4 4 rfl rfl)
theorem dX9_chance_100 : decode cX9_chance 100 = .ok (.invokevirtual 353, 3) := dk_182 1 97 (dk_at dksX9_chance_4 7 rfl rfl)
theorem dX9_chance_103 : decode cX9_chance 103 = .ok (.invokevirtual 184, 3) := dk_182 0 184 (dk_at dksX9_chance_4 10 rfl rfl)
theorem dX9_chance_106 : decode cX9_chance 106 = .ok (.aload_n 0, 1) := dk_42 (dk_at dksX9_chance_4 13 rfl rfl)
theorem dX9_chance_107 : decode cX9_chance 107 = .ok (.aload_n 0, 1) := dk_42 (dk_at dksX9_chance_4 14 rfl rfl)
theorem dX9_chance_108 : decode cX9_chance 108 = .ok (.iload_n 3, 1) := dk_29 (dk_at dksX9_chance_4 15 rfl rfl)
theorem dX9_chance_109 : decode cX9_chance 109 = .ok (.aload_n 0, 1) := dk_42 (dk_at dksX9_chance_4 16 rfl rfl)
theorem dX9_chance_110 : decode cX9_chance 110 = .ok (.iconst 0, 1) := dk_3 (dk_at dksX9_chance_4 17 rfl rfl)
theorem dX9_chance_111 : decode cX9_chance 111 = .ok (.invokevirtual 174, 3) := dk_182 0 174 (dk_at dksX9_chance_4 18 rfl rfl)
theorem dX9_chance_114 : decode cX9_chance 114 = .ok (.iconst 1, 1) := dk_4 (dk_at dksX9_chance_4 21 rfl rfl)
theorem dX9_chance_115 : decode cX9_chance 115 = .ok (.invokevirtual 181, 3) := dk_182 0 181 (dk_at dksX9_chance_5 0 rfl rfl)
theorem dX9_chance_118 : decode cX9_chance 118 = .ok (.aload_n 0, 1) := dk_42 (dk_at dksX9_chance_5 3 rfl rfl)
theorem dX9_chance_119 : decode cX9_chance 119 = .ok (.sipush 1000, 3) := dk_17 3 232 (dk_at dksX9_chance_5 4 rfl rfl)
theorem dX9_chance_122 : decode cX9_chance 122 = .ok (.invokevirtual 353, 3) := dk_182 1 97 (dk_at dksX9_chance_5 7 rfl rfl)
theorem dX9_chance_125 : decode cX9_chance 125 = .ok (.invokevirtual 184, 3) := dk_182 0 184 (dk_at dksX9_chance_5 10 rfl rfl)
theorem dX9_chance_128 : decode cX9_chance 128 = .ok (.aload_n 0, 1) := dk_42 (dk_at dksX9_chance_5 13 rfl rfl)
theorem dX9_chance_129 : decode cX9_chance 129 = .ok (.invokevirtual 311, 3) := dk_182 1 55 (dk_at dksX9_chance_5 14 rfl rfl)
theorem dX9_chance_132 : decode cX9_chance 132 = .ok (.iinc 5 1, 3) := dk_132 5 1 (dk_at dksX9_chance_5 17 rfl rfl)
theorem dX9_chance_135 : decode cX9_chance 135 = .ok (.goto (-57), 3) := dk_167 255 199 (dk_at dksX9_chance_5 20 rfl rfl)
theorem dX9_chance_138 : decode cX9_chance 138 = .ok (.aload_n 0, 1) := dk_42 (dk_at dksX9_chance_5 23 rfl rfl)
theorem dX9_chance_139 : decode cX9_chance 139 = .ok (.iload_n 3, 1) := dk_29 (dk_at dksX9_chance_6 0 rfl rfl)
theorem dX9_chance_140 : decode cX9_chance 140 = .ok (.invokevirtual 350, 3) := dk_182 1 94 (dk_at dksX9_chance_6 1 rfl rfl)
theorem dX9_chance_143 : decode cX9_chance 143 = .ok (.iload 4, 2) := dk_21 4 (dk_at dksX9_chance_6 4 rfl rfl)
theorem dX9_chance_145 : decode cX9_chance 145 = .ok (.isub, 1) := dk_100 (dk_at dksX9_chance_6 6 rfl rfl)
theorem dX9_chance_146 : decode cX9_chance 146 = .ok (.istore 5, 2) := dk_54 5 (dk_at dksX9_chance_6 7 rfl rfl)
theorem dX9_chance_148 : decode cX9_chance 148 = .ok (.aload_n 0, 1) := dk_42 (dk_at dksX9_chance_6 9 rfl rfl)
theorem dX9_chance_149 : decode cX9_chance 149 = .ok (.iconst 0, 1) := dk_3 (dk_at dksX9_chance_6 10 rfl rfl)
theorem dX9_chance_150 : decode cX9_chance 150 = .ok (.putfield 101, 3) := dk_181 0 101 (dk_at dksX9_chance_6 11 rfl rfl)
theorem dX9_chance_153 : decode cX9_chance 153 = .ok (.iload 5, 2) := dk_21 5 (dk_at dksX9_chance_6 14 rfl rfl)
theorem dX9_chance_155 : decode cX9_chance 155 = .ok (.ireturn, 1) := dk_172 (dk_at dksX9_chance_6 16 rfl rfl)
abbrev cX9_totalOf : ByteArray := prog_17_method_120_code
def yX9_totalOf : MethodName := ⟨RX9, "totalOf", "(I)I"⟩
def dkwX9_totalOf_2 : List UInt8 := [96, 182, 0, 174, 96, 172]
abbrev dktX9_totalOf_2 : List UInt8 := dkwX9_totalOf_2 ++ []
def dkwX9_totalOf_1 : List UInt8 := [96, 42, 17, 8, 20, 7, 27, 104, 96, 5, 96, 182, 0, 174, 96, 42, 17, 8, 20, 7, 27, 104, 96, 6]
abbrev dktX9_totalOf_1 : List UInt8 := dkwX9_totalOf_1 ++ dktX9_totalOf_2
def dkwX9_totalOf_0 : List UInt8 := [42, 17, 8, 20, 7, 27, 104, 96, 182, 0, 174, 42, 17, 8, 20, 7, 27, 104, 96, 4, 96, 182, 0, 174]
abbrev dktX9_totalOf_0 : List UInt8 := dkwX9_totalOf_0 ++ dktX9_totalOf_1
theorem dksX9_totalOf_0 : cX9_totalOf.data.toList.drop 0 = dktX9_totalOf_0 := by decide +kernel
theorem dksX9_totalOf_1 : cX9_totalOf.data.toList.drop 24 = dktX9_totalOf_1 := dk_seg dksX9_totalOf_0 24 rfl rfl
theorem dksX9_totalOf_2 : cX9_totalOf.data.toList.drop 48 = dktX9_totalOf_2 := dk_seg dksX9_totalOf_1 24 rfl rfl
theorem dX9_totalOf_0 : decode cX9_totalOf 0 = .ok (.aload_n 0, 1) := dk_42 (dk_at dksX9_totalOf_0 0 rfl rfl)
theorem dX9_totalOf_1 : decode cX9_totalOf 1 = .ok (.sipush 2068, 3) := dk_17 8 20 (dk_at dksX9_totalOf_0 1 rfl rfl)
theorem dX9_totalOf_4 : decode cX9_totalOf 4 = .ok (.iconst 4, 1) := dk_7 (dk_at dksX9_totalOf_0 4 rfl rfl)
theorem dX9_totalOf_5 : decode cX9_totalOf 5 = .ok (.iload_n 1, 1) := dk_27 (dk_at dksX9_totalOf_0 5 rfl rfl)
theorem dX9_totalOf_6 : decode cX9_totalOf 6 = .ok (.imul, 1) := dk_104 (dk_at dksX9_totalOf_0 6 rfl rfl)
theorem dX9_totalOf_7 : decode cX9_totalOf 7 = .ok (.iadd, 1) := dk_96 (dk_at dksX9_totalOf_0 7 rfl rfl)
theorem dX9_totalOf_8 : decode cX9_totalOf 8 = .ok (.invokevirtual 174, 3) := dk_182 0 174 (dk_at dksX9_totalOf_0 8 rfl rfl)
theorem dX9_totalOf_11 : decode cX9_totalOf 11 = .ok (.aload_n 0, 1) := dk_42 (dk_at dksX9_totalOf_0 11 rfl rfl)
theorem dX9_totalOf_12 : decode cX9_totalOf 12 = .ok (.sipush 2068, 3) := dk_17 8 20 (dk_at dksX9_totalOf_0 12 rfl rfl)
theorem dX9_totalOf_15 : decode cX9_totalOf 15 = .ok (.iconst 4, 1) := dk_7 (dk_at dksX9_totalOf_0 15 rfl rfl)
theorem dX9_totalOf_16 : decode cX9_totalOf 16 = .ok (.iload_n 1, 1) := dk_27 (dk_at dksX9_totalOf_0 16 rfl rfl)
theorem dX9_totalOf_17 : decode cX9_totalOf 17 = .ok (.imul, 1) := dk_104 (dk_at dksX9_totalOf_0 17 rfl rfl)
theorem dX9_totalOf_18 : decode cX9_totalOf 18 = .ok (.iadd, 1) := dk_96 (dk_at dksX9_totalOf_0 18 rfl rfl)
theorem dX9_totalOf_19 : decode cX9_totalOf 19 = .ok (.iconst 1, 1) := dk_4 (dk_at dksX9_totalOf_0 19 rfl rfl)
theorem dX9_totalOf_20 : decode cX9_totalOf 20 = .ok (.iadd, 1) := dk_96 (dk_at dksX9_totalOf_0 20 rfl rfl)
theorem dX9_totalOf_21 : decode cX9_totalOf 21 = .ok (.invokevirtual 174, 3) := dk_182 0 174 (dk_at dksX9_totalOf_0 21 rfl rfl)
theorem dX9_totalOf_24 : decode cX9_totalOf 24 = .ok (.iadd, 1) := dk_96 (dk_at dksX9_totalOf_1 0 rfl rfl)
theorem dX9_totalOf_25 : decode cX9_totalOf 25 = .ok (.aload_n 0, 1) := dk_42 (dk_at dksX9_totalOf_1 1 rfl rfl)
theorem dX9_totalOf_26 : decode cX9_totalOf 26 = .ok (.sipush 2068, 3) := dk_17 8 20 (dk_at dksX9_totalOf_1 2 rfl rfl)
theorem dX9_totalOf_29 : decode cX9_totalOf 29 = .ok (.iconst 4, 1) := dk_7 (dk_at dksX9_totalOf_1 5 rfl rfl)
theorem dX9_totalOf_30 : decode cX9_totalOf 30 = .ok (.iload_n 1, 1) := dk_27 (dk_at dksX9_totalOf_1 6 rfl rfl)
theorem dX9_totalOf_31 : decode cX9_totalOf 31 = .ok (.imul, 1) := dk_104 (dk_at dksX9_totalOf_1 7 rfl rfl)
theorem dX9_totalOf_32 : decode cX9_totalOf 32 = .ok (.iadd, 1) := dk_96 (dk_at dksX9_totalOf_1 8 rfl rfl)
theorem dX9_totalOf_33 : decode cX9_totalOf 33 = .ok (.iconst 2, 1) := dk_5 (dk_at dksX9_totalOf_1 9 rfl rfl)
theorem dX9_totalOf_34 : decode cX9_totalOf 34 = .ok (.iadd, 1) := dk_96 (dk_at dksX9_totalOf_1 10 rfl rfl)
theorem dX9_totalOf_35 : decode cX9_totalOf 35 = .ok (.invokevirtual 174, 3) := dk_182 0 174 (dk_at dksX9_totalOf_1 11 rfl rfl)
theorem dX9_totalOf_38 : decode cX9_totalOf 38 = .ok (.iadd, 1) := dk_96 (dk_at dksX9_totalOf_1 14 rfl rfl)
theorem dX9_totalOf_39 : decode cX9_totalOf 39 = .ok (.aload_n 0, 1) := dk_42 (dk_at dksX9_totalOf_1 15 rfl rfl)
theorem dX9_totalOf_40 : decode cX9_totalOf 40 = .ok (.sipush 2068, 3) := dk_17 8 20 (dk_at dksX9_totalOf_1 16 rfl rfl)
theorem dX9_totalOf_43 : decode cX9_totalOf 43 = .ok (.iconst 4, 1) := dk_7 (dk_at dksX9_totalOf_1 19 rfl rfl)
theorem dX9_totalOf_44 : decode cX9_totalOf 44 = .ok (.iload_n 1, 1) := dk_27 (dk_at dksX9_totalOf_1 20 rfl rfl)
theorem dX9_totalOf_45 : decode cX9_totalOf 45 = .ok (.imul, 1) := dk_104 (dk_at dksX9_totalOf_1 21 rfl rfl)
theorem dX9_totalOf_46 : decode cX9_totalOf 46 = .ok (.iadd, 1) := dk_96 (dk_at dksX9_totalOf_1 22 rfl rfl)
theorem dX9_totalOf_47 : decode cX9_totalOf 47 = .ok (.iconst 3, 1) := dk_6 (dk_at dksX9_totalOf_1 23 rfl rfl)
theorem dX9_totalOf_48 : decode cX9_totalOf 48 = .ok (.iadd, 1) := dk_96 (dk_at dksX9_totalOf_2 0 rfl rfl)
theorem dX9_totalOf_49 : decode cX9_totalOf 49 = .ok (.invokevirtual 174, 3) := dk_182 0 174 (dk_at dksX9_totalOf_2 1 rfl rfl)
theorem dX9_totalOf_52 : decode cX9_totalOf 52 = .ok (.iadd, 1) := dk_96 (dk_at dksX9_totalOf_2 4 rfl rfl)
theorem dX9_totalOf_53 : decode cX9_totalOf 53 = .ok (.ireturn, 1) := dk_172 (dk_at dksX9_totalOf_2 5 rfl rfl)
abbrev cX9_draw : ByteArray := prog_17_method_119_code
def yX9_draw : MethodName := ⟨RX9, "draw", "(I)I"⟩
def dkwX9_draw_1 : List UInt8 := [20, 1, 92, 109, 27, 133, 113, 136, 172]
abbrev dktX9_draw_1 : List UInt8 := dkwX9_draw_1 ++ []
def dkwX9_draw_0 : List UInt8 := [42, 42, 180, 1, 83, 20, 1, 86, 105, 20, 1, 88, 97, 20, 1, 90, 127, 181, 1, 83, 42, 180, 1, 83]
abbrev dktX9_draw_0 : List UInt8 := dkwX9_draw_0 ++ dktX9_draw_1
theorem dksX9_draw_0 : cX9_draw.data.toList.drop 0 = dktX9_draw_0 := by decide +kernel
theorem dksX9_draw_1 : cX9_draw.data.toList.drop 24 = dktX9_draw_1 := dk_seg dksX9_draw_0 24 rfl rfl
theorem dX9_draw_0 : decode cX9_draw 0 = .ok (.aload_n 0, 1) := dk_42 (dk_at dksX9_draw_0 0 rfl rfl)
theorem dX9_draw_1 : decode cX9_draw 1 = .ok (.aload_n 0, 1) := dk_42 (dk_at dksX9_draw_0 1 rfl rfl)
theorem dX9_draw_2 : decode cX9_draw 2 = .ok (.getfield 339, 3) := dk_180 1 83 (dk_at dksX9_draw_0 2 rfl rfl)
theorem dX9_draw_5 : decode cX9_draw 5 = .ok (.ldc2_w 342, 3) := dk_20 1 86 (dk_at dksX9_draw_0 5 rfl rfl)
theorem dX9_draw_8 : decode cX9_draw 8 = .ok (.lmul, 1) := dk_105 (dk_at dksX9_draw_0 8 rfl rfl)
theorem dX9_draw_9 : decode cX9_draw 9 = .ok (.ldc2_w 344, 3) := dk_20 1 88 (dk_at dksX9_draw_0 9 rfl rfl)
theorem dX9_draw_12 : decode cX9_draw 12 = .ok (.ladd, 1) := dk_97 (dk_at dksX9_draw_0 12 rfl rfl)
theorem dX9_draw_13 : decode cX9_draw 13 = .ok (.ldc2_w 346, 3) := dk_20 1 90 (dk_at dksX9_draw_0 13 rfl rfl)
theorem dX9_draw_16 : decode cX9_draw 16 = .ok (.land, 1) := dk_127 (dk_at dksX9_draw_0 16 rfl rfl)
theorem dX9_draw_17 : decode cX9_draw 17 = .ok (.putfield 339, 3) := dk_181 1 83 (dk_at dksX9_draw_0 17 rfl rfl)
theorem dX9_draw_20 : decode cX9_draw 20 = .ok (.aload_n 0, 1) := dk_42 (dk_at dksX9_draw_0 20 rfl rfl)
theorem dX9_draw_21 : decode cX9_draw 21 = .ok (.getfield 339, 3) := dk_180 1 83 (dk_at dksX9_draw_0 21 rfl rfl)
theorem dX9_draw_24 : decode cX9_draw 24 = .ok (.ldc2_w 348, 3) := dk_20 1 92 (dk_at dksX9_draw_1 0 rfl rfl)
theorem dX9_draw_27 : decode cX9_draw 27 = .ok (.ldiv, 1) := dk_109 (dk_at dksX9_draw_1 3 rfl rfl)
theorem dX9_draw_28 : decode cX9_draw 28 = .ok (.iload_n 1, 1) := dk_27 (dk_at dksX9_draw_1 4 rfl rfl)
theorem dX9_draw_29 : decode cX9_draw 29 = .ok (.i2l, 1) := dk_133 (dk_at dksX9_draw_1 5 rfl rfl)
theorem dX9_draw_30 : decode cX9_draw 30 = .ok (.lrem, 1) := dk_113 (dk_at dksX9_draw_1 6 rfl rfl)
theorem dX9_draw_31 : decode cX9_draw 31 = .ok (.l2i, 1) := dk_136 (dk_at dksX9_draw_1 7 rfl rfl)
theorem dX9_draw_32 : decode cX9_draw 32 = .ok (.ireturn, 1) := dk_172 (dk_at dksX9_draw_1 8 rfl rfl)
abbrev cX9_farthest : ByteArray := prog_17_method_122_code
def yX9_farthest : MethodName := ⟨RX9, "farthest", "(I)I"⟩
def dkwX9_farthest_3 : List UInt8 := [163, 0, 6, 167, 0, 9, 21, 4, 61, 21, 5, 62, 132, 4, 1, 167, 255, 193, 28, 172]
abbrev dktX9_farthest_3 : List UInt8 := dkwX9_farthest_3 ++ []
def dkwX9_farthest_2 : List UInt8 := [54, 5, 21, 5, 156, 0, 9, 21, 5, 116, 167, 0, 5, 21, 5, 54, 5, 28, 155, 0, 12, 21, 5, 29]
abbrev dktX9_farthest_2 : List UInt8 := dkwX9_farthest_2 ++ dktX9_farthest_3
def dkwX9_farthest_1 : List UInt8 := [21, 4, 42, 182, 0, 233, 162, 0, 60, 42, 27, 21, 4, 182, 1, 71, 42, 27, 21, 4, 182, 1, 5, 100]
abbrev dktX9_farthest_1 : List UInt8 := dkwX9_farthest_1 ++ dktX9_farthest_2
def dkwX9_farthest_0 : List UInt8 := [42, 3, 181, 0, 49, 42, 27, 182, 1, 40, 154, 0, 5, 2, 172, 16, 254, 61, 3, 62, 3, 54, 4]
abbrev dktX9_farthest_0 : List UInt8 := dkwX9_farthest_0 ++ dktX9_farthest_1
theorem dksX9_farthest_0 : cX9_farthest.data.toList.drop 0 = dktX9_farthest_0 := by decide +kernel
theorem dksX9_farthest_1 : cX9_farthest.data.toList.drop 23 = dktX9_farthest_1 := dk_seg dksX9_farthest_0 23 rfl rfl
theorem dksX9_farthest_2 : cX9_farthest.data.toList.drop 47 = dktX9_farthest_2 := dk_seg dksX9_farthest_1 24 rfl rfl
theorem dksX9_farthest_3 : cX9_farthest.data.toList.drop 71 = dktX9_farthest_3 := dk_seg dksX9_farthest_2 24 rfl rfl
theorem dX9_farthest_0 : decode cX9_farthest 0 = .ok (.aload_n 0, 1) := dk_42 (dk_at dksX9_farthest_0 0 rfl rfl)
theorem dX9_farthest_1 : decode cX9_farthest 1 = .ok (.iconst 0, 1) := dk_3 (dk_at dksX9_farthest_0 1 rfl rfl)
theorem dX9_farthest_2 : decode cX9_farthest 2 = .ok (.putfield 49, 3) := dk_181 0 49 (dk_at dksX9_farthest_0 2 rfl rfl)
theorem dX9_farthest_5 : decode cX9_farthest 5 = .ok (.aload_n 0, 1) := dk_42 (dk_at dksX9_farthest_0 5 rfl rfl)
theorem dX9_farthest_6 : decode cX9_farthest 6 = .ok (.iload_n 1, 1) := dk_27 (dk_at dksX9_farthest_0 6 rfl rfl)
theorem dX9_farthest_7 : decode cX9_farthest 7 = .ok (.invokevirtual 296, 3) := dk_182 1 40 (dk_at dksX9_farthest_0 7 rfl rfl)
theorem dX9_farthest_10 : decode cX9_farthest 10 = .ok (.ifCond .ne 5, 3) := dk_154 0 5 (dk_at dksX9_farthest_0 10 rfl rfl)
theorem dX9_farthest_13 : decode cX9_farthest 13 = .ok (.iconst (-1), 1) := dk_2 (dk_at dksX9_farthest_0 13 rfl rfl)
theorem dX9_farthest_14 : decode cX9_farthest 14 = .ok (.ireturn, 1) := dk_172 (dk_at dksX9_farthest_0 14 rfl rfl)
theorem dX9_farthest_15 : decode cX9_farthest 15 = .ok (.bipush (-2), 2) := dk_16 254 (dk_at dksX9_farthest_0 15 rfl rfl)
theorem dX9_farthest_17 : decode cX9_farthest 17 = .ok (.istore_n 2, 1) := dk_61 (dk_at dksX9_farthest_0 17 rfl rfl)
theorem dX9_farthest_18 : decode cX9_farthest 18 = .ok (.iconst 0, 1) := dk_3 (dk_at dksX9_farthest_0 18 rfl rfl)
theorem dX9_farthest_19 : decode cX9_farthest 19 = .ok (.istore_n 3, 1) := dk_62 (dk_at dksX9_farthest_0 19 rfl rfl)
theorem dX9_farthest_20 : decode cX9_farthest 20 = .ok (.iconst 0, 1) := dk_3 (dk_at dksX9_farthest_0 20 rfl rfl)
theorem dX9_farthest_21 : decode cX9_farthest 21 = .ok (.istore 4, 2) := dk_54 4 (dk_at dksX9_farthest_0 21 rfl rfl)
theorem dX9_farthest_23 : decode cX9_farthest 23 = .ok (.iload 4, 2) := dk_21 4 (dk_at dksX9_farthest_1 0 rfl rfl)
theorem dX9_farthest_25 : decode cX9_farthest 25 = .ok (.aload_n 0, 1) := dk_42 (dk_at dksX9_farthest_1 2 rfl rfl)
theorem dX9_farthest_26 : decode cX9_farthest 26 = .ok (.invokevirtual 233, 3) := dk_182 0 233 (dk_at dksX9_farthest_1 3 rfl rfl)
theorem dX9_farthest_29 : decode cX9_farthest 29 = .ok (.if_icmp .ge 60, 3) := dk_162 0 60 (dk_at dksX9_farthest_1 6 rfl rfl)
theorem dX9_farthest_32 : decode cX9_farthest 32 = .ok (.aload_n 0, 1) := dk_42 (dk_at dksX9_farthest_1 9 rfl rfl)
theorem dX9_farthest_33 : decode cX9_farthest 33 = .ok (.iload_n 1, 1) := dk_27 (dk_at dksX9_farthest_1 10 rfl rfl)
theorem dX9_farthest_34 : decode cX9_farthest 34 = .ok (.iload 4, 2) := dk_21 4 (dk_at dksX9_farthest_1 11 rfl rfl)
theorem dX9_farthest_36 : decode cX9_farthest 36 = .ok (.invokevirtual 327, 3) := dk_182 1 71 (dk_at dksX9_farthest_1 13 rfl rfl)
theorem dX9_farthest_39 : decode cX9_farthest 39 = .ok (.aload_n 0, 1) := dk_42 (dk_at dksX9_farthest_1 16 rfl rfl)
theorem dX9_farthest_40 : decode cX9_farthest 40 = .ok (.iload_n 1, 1) := dk_27 (dk_at dksX9_farthest_1 17 rfl rfl)
theorem dX9_farthest_41 : decode cX9_farthest 41 = .ok (.iload 4, 2) := dk_21 4 (dk_at dksX9_farthest_1 18 rfl rfl)
theorem dX9_farthest_43 : decode cX9_farthest 43 = .ok (.invokevirtual 261, 3) := dk_182 1 5 (dk_at dksX9_farthest_1 20 rfl rfl)
theorem dX9_farthest_46 : decode cX9_farthest 46 = .ok (.isub, 1) := dk_100 (dk_at dksX9_farthest_1 23 rfl rfl)
theorem dX9_farthest_47 : decode cX9_farthest 47 = .ok (.istore 5, 2) := dk_54 5 (dk_at dksX9_farthest_2 0 rfl rfl)
theorem dX9_farthest_49 : decode cX9_farthest 49 = .ok (.iload 5, 2) := dk_21 5 (dk_at dksX9_farthest_2 2 rfl rfl)
theorem dX9_farthest_51 : decode cX9_farthest 51 = .ok (.ifCond .ge 9, 3) := dk_156 0 9 (dk_at dksX9_farthest_2 4 rfl rfl)
theorem dX9_farthest_54 : decode cX9_farthest 54 = .ok (.iload 5, 2) := dk_21 5 (dk_at dksX9_farthest_2 7 rfl rfl)
theorem dX9_farthest_56 : decode cX9_farthest 56 = .ok (.ineg, 1) := dk_116 (dk_at dksX9_farthest_2 9 rfl rfl)
theorem dX9_farthest_57 : decode cX9_farthest 57 = .ok (.goto 5, 3) := dk_167 0 5 (dk_at dksX9_farthest_2 10 rfl rfl)
theorem dX9_farthest_60 : decode cX9_farthest 60 = .ok (.iload 5, 2) := dk_21 5 (dk_at dksX9_farthest_2 13 rfl rfl)
theorem dX9_farthest_62 : decode cX9_farthest 62 = .ok (.istore 5, 2) := dk_54 5 (dk_at dksX9_farthest_2 15 rfl rfl)
theorem dX9_farthest_64 : decode cX9_farthest 64 = .ok (.iload_n 2, 1) := dk_28 (dk_at dksX9_farthest_2 17 rfl rfl)
theorem dX9_farthest_65 : decode cX9_farthest 65 = .ok (.ifCond .lt 12, 3) := dk_155 0 12 (dk_at dksX9_farthest_2 18 rfl rfl)
theorem dX9_farthest_68 : decode cX9_farthest 68 = .ok (.iload 5, 2) := dk_21 5 (dk_at dksX9_farthest_2 21 rfl rfl)
theorem dX9_farthest_70 : decode cX9_farthest 70 = .ok (.iload_n 3, 1) := dk_29 (dk_at dksX9_farthest_2 23 rfl rfl)
theorem dX9_farthest_71 : decode cX9_farthest 71 = .ok (.if_icmp .gt 6, 3) := dk_163 0 6 (dk_at dksX9_farthest_3 0 rfl rfl)
theorem dX9_farthest_74 : decode cX9_farthest 74 = .ok (.goto 9, 3) := dk_167 0 9 (dk_at dksX9_farthest_3 3 rfl rfl)
theorem dX9_farthest_77 : decode cX9_farthest 77 = .ok (.iload 4, 2) := dk_21 4 (dk_at dksX9_farthest_3 6 rfl rfl)
theorem dX9_farthest_79 : decode cX9_farthest 79 = .ok (.istore_n 2, 1) := dk_61 (dk_at dksX9_farthest_3 8 rfl rfl)
theorem dX9_farthest_80 : decode cX9_farthest 80 = .ok (.iload 5, 2) := dk_21 5 (dk_at dksX9_farthest_3 9 rfl rfl)
theorem dX9_farthest_82 : decode cX9_farthest 82 = .ok (.istore_n 3, 1) := dk_62 (dk_at dksX9_farthest_3 11 rfl rfl)
theorem dX9_farthest_83 : decode cX9_farthest 83 = .ok (.iinc 4 1, 3) := dk_132 4 1 (dk_at dksX9_farthest_3 12 rfl rfl)
theorem dX9_farthest_86 : decode cX9_farthest 86 = .ok (.goto (-63), 3) := dk_167 255 193 (dk_at dksX9_farthest_3 15 rfl rfl)
theorem dX9_farthest_89 : decode cX9_farthest 89 = .ok (.iload_n 2, 1) := dk_28 (dk_at dksX9_farthest_3 18 rfl rfl)
theorem dX9_farthest_90 : decode cX9_farthest 90 = .ok (.ireturn, 1) := dk_172 (dk_at dksX9_farthest_3 19 rfl rfl)
abbrev cX9_count : ByteArray := prog_17_method_123_code
def yX9_count : MethodName := ⟨RX9, "count", "(I)I"⟩
def dkwX9_count_6 : List UInt8 := [42, 180, 0, 104, 172, 42, 180, 0, 52, 172, 42, 180, 0, 32, 16, 6, 46, 172, 2, 172]
abbrev dktX9_count_6 : List UInt8 := dkwX9_count_6 ++ []
def dkwX9_count_5 : List UInt8 := [3, 46, 172, 42, 180, 0, 32, 5, 46, 172, 42, 180, 0, 32, 7, 46, 172, 42, 180, 0, 32, 8, 46, 172]
abbrev dktX9_count_5 : List UInt8 := dkwX9_count_5 ++ dktX9_count_6
def dkwX9_count_4 : List UInt8 := [167, 255, 232, 28, 172, 42, 17, 7, 74, 182, 0, 174, 172, 42, 180, 0, 32, 4, 46, 172, 42, 180, 0, 32]
abbrev dktX9_count_4 : List UInt8 := dkwX9_count_4 ++ dktX9_count_5
def dkwX9_count_3 : List UInt8 := [17, 7, 73, 182, 0, 174, 162, 0, 19, 28, 42, 29, 16, 9, 182, 1, 0, 96, 61, 132, 3, 1]
abbrev dktX9_count_3 : List UInt8 := dkwX9_count_3 ++ dktX9_count_4
def dkwX9_count_2 : List UInt8 := [42, 180, 0, 94, 172, 42, 3, 182, 0, 174, 172, 42, 17, 7, 73, 182, 0, 174, 172, 3, 62, 29, 42]
abbrev dktX9_count_2 : List UInt8 := dkwX9_count_2 ++ dktX9_count_3
def dkwX9_count_1 : List UInt8 := [170, 0, 0, 0, 0, 0, 0, 179, 0, 0, 0, 0, 0, 0, 0, 12, 0, 0, 0, 68, 0, 0, 0, 73, 0, 0, 0, 79, 0, 0, 0, 87, 0, 0, 0, 118, 0, 0, 0, 126, 0, 0, 0, 133, 0, 0, 0, 140, 0, 0, 0, 147, 0, 0, 0, 154, 0, 0, 0, 161, 0, 0, 0, 166, 0, 0, 0, 171]
abbrev dktX9_count_1 : List UInt8 := dkwX9_count_1 ++ dktX9_count_2
def dkwX9_count_0 : List UInt8 := [42, 3, 181, 0, 49, 3, 61, 27]
abbrev dktX9_count_0 : List UInt8 := dkwX9_count_0 ++ dktX9_count_1
theorem dksX9_count_0 : cX9_count.data.toList.drop 0 = dktX9_count_0 := by decide +kernel
theorem dksX9_count_1 : cX9_count.data.toList.drop 8 = dktX9_count_1 := dk_seg dksX9_count_0 8 rfl rfl
theorem dksX9_count_2 : cX9_count.data.toList.drop 76 = dktX9_count_2 := dk_seg dksX9_count_1 68 rfl rfl
theorem dksX9_count_3 : cX9_count.data.toList.drop 99 = dktX9_count_3 := dk_seg dksX9_count_2 23 rfl rfl
theorem dksX9_count_4 : cX9_count.data.toList.drop 121 = dktX9_count_4 := dk_seg dksX9_count_3 22 rfl rfl
theorem dksX9_count_5 : cX9_count.data.toList.drop 145 = dktX9_count_5 := dk_seg dksX9_count_4 24 rfl rfl
theorem dksX9_count_6 : cX9_count.data.toList.drop 169 = dktX9_count_6 := dk_seg dksX9_count_5 24 rfl rfl
theorem dX9_count_0 : decode cX9_count 0 = .ok (.aload_n 0, 1) := dk_42 (dk_at dksX9_count_0 0 rfl rfl)
theorem dX9_count_1 : decode cX9_count 1 = .ok (.iconst 0, 1) := dk_3 (dk_at dksX9_count_0 1 rfl rfl)
theorem dX9_count_2 : decode cX9_count 2 = .ok (.putfield 49, 3) := dk_181 0 49 (dk_at dksX9_count_0 2 rfl rfl)
theorem dX9_count_5 : decode cX9_count 5 = .ok (.iconst 0, 1) := dk_3 (dk_at dksX9_count_0 5 rfl rfl)
theorem dX9_count_6 : decode cX9_count 6 = .ok (.istore_n 2, 1) := dk_61 (dk_at dksX9_count_0 6 rfl rfl)
theorem dX9_count_7 : decode cX9_count 7 = .ok (.iload_n 1, 1) := dk_27 (dk_at dksX9_count_0 7 rfl rfl)
theorem dX9_count_8 : decode cX9_count 8 = .ok (.tableswitch 179 0 12 #[68, 73, 79, 87, 118, 126, 133, 140, 147, 154, 161, 166, 171], 68) := by decide +kernel
theorem dX9_count_76 : decode cX9_count 76 = .ok (.aload_n 0, 1) := dk_42 (dk_at dksX9_count_2 0 rfl rfl)
theorem dX9_count_77 : decode cX9_count 77 = .ok (.getfield 94, 3) := dk_180 0 94 (dk_at dksX9_count_2 1 rfl rfl)
theorem dX9_count_80 : decode cX9_count 80 = .ok (.ireturn, 1) := dk_172 (dk_at dksX9_count_2 4 rfl rfl)
theorem dX9_count_81 : decode cX9_count 81 = .ok (.aload_n 0, 1) := dk_42 (dk_at dksX9_count_2 5 rfl rfl)
theorem dX9_count_82 : decode cX9_count 82 = .ok (.iconst 0, 1) := dk_3 (dk_at dksX9_count_2 6 rfl rfl)
theorem dX9_count_83 : decode cX9_count 83 = .ok (.invokevirtual 174, 3) := dk_182 0 174 (dk_at dksX9_count_2 7 rfl rfl)
theorem dX9_count_86 : decode cX9_count 86 = .ok (.ireturn, 1) := dk_172 (dk_at dksX9_count_2 10 rfl rfl)
theorem dX9_count_87 : decode cX9_count 87 = .ok (.aload_n 0, 1) := dk_42 (dk_at dksX9_count_2 11 rfl rfl)
theorem dX9_count_88 : decode cX9_count 88 = .ok (.sipush 1865, 3) := dk_17 7 73 (dk_at dksX9_count_2 12 rfl rfl)
theorem dX9_count_91 : decode cX9_count 91 = .ok (.invokevirtual 174, 3) := dk_182 0 174 (dk_at dksX9_count_2 15 rfl rfl)
theorem dX9_count_94 : decode cX9_count 94 = .ok (.ireturn, 1) := dk_172 (dk_at dksX9_count_2 18 rfl rfl)
theorem dX9_count_95 : decode cX9_count 95 = .ok (.iconst 0, 1) := dk_3 (dk_at dksX9_count_2 19 rfl rfl)
theorem dX9_count_96 : decode cX9_count 96 = .ok (.istore_n 3, 1) := dk_62 (dk_at dksX9_count_2 20 rfl rfl)
theorem dX9_count_97 : decode cX9_count 97 = .ok (.iload_n 3, 1) := dk_29 (dk_at dksX9_count_2 21 rfl rfl)
theorem dX9_count_98 : decode cX9_count 98 = .ok (.aload_n 0, 1) := dk_42 (dk_at dksX9_count_2 22 rfl rfl)
theorem dX9_count_99 : decode cX9_count 99 = .ok (.sipush 1865, 3) := dk_17 7 73 (dk_at dksX9_count_3 0 rfl rfl)
theorem dX9_count_102 : decode cX9_count 102 = .ok (.invokevirtual 174, 3) := dk_182 0 174 (dk_at dksX9_count_3 3 rfl rfl)
theorem dX9_count_105 : decode cX9_count 105 = .ok (.if_icmp .ge 19, 3) := dk_162 0 19 (dk_at dksX9_count_3 6 rfl rfl)
theorem dX9_count_108 : decode cX9_count 108 = .ok (.iload_n 2, 1) := dk_28 (dk_at dksX9_count_3 9 rfl rfl)
theorem dX9_count_109 : decode cX9_count 109 = .ok (.aload_n 0, 1) := dk_42 (dk_at dksX9_count_3 10 rfl rfl)
theorem dX9_count_110 : decode cX9_count 110 = .ok (.iload_n 3, 1) := dk_29 (dk_at dksX9_count_3 11 rfl rfl)
theorem dX9_count_111 : decode cX9_count 111 = .ok (.bipush 9, 2) := dk_16 9 (dk_at dksX9_count_3 12 rfl rfl)
theorem dX9_count_113 : decode cX9_count 113 = .ok (.invokevirtual 256, 3) := dk_182 1 0 (dk_at dksX9_count_3 14 rfl rfl)
theorem dX9_count_116 : decode cX9_count 116 = .ok (.iadd, 1) := dk_96 (dk_at dksX9_count_3 17 rfl rfl)
theorem dX9_count_117 : decode cX9_count 117 = .ok (.istore_n 2, 1) := dk_61 (dk_at dksX9_count_3 18 rfl rfl)
theorem dX9_count_118 : decode cX9_count 118 = .ok (.iinc 3 1, 3) := dk_132 3 1 (dk_at dksX9_count_3 19 rfl rfl)
theorem dX9_count_121 : decode cX9_count 121 = .ok (.goto (-24), 3) := dk_167 255 232 (dk_at dksX9_count_4 0 rfl rfl)
theorem dX9_count_124 : decode cX9_count 124 = .ok (.iload_n 2, 1) := dk_28 (dk_at dksX9_count_4 3 rfl rfl)
theorem dX9_count_125 : decode cX9_count 125 = .ok (.ireturn, 1) := dk_172 (dk_at dksX9_count_4 4 rfl rfl)
theorem dX9_count_126 : decode cX9_count 126 = .ok (.aload_n 0, 1) := dk_42 (dk_at dksX9_count_4 5 rfl rfl)
theorem dX9_count_127 : decode cX9_count 127 = .ok (.sipush 1866, 3) := dk_17 7 74 (dk_at dksX9_count_4 6 rfl rfl)
theorem dX9_count_130 : decode cX9_count 130 = .ok (.invokevirtual 174, 3) := dk_182 0 174 (dk_at dksX9_count_4 9 rfl rfl)
theorem dX9_count_133 : decode cX9_count 133 = .ok (.ireturn, 1) := dk_172 (dk_at dksX9_count_4 12 rfl rfl)
theorem dX9_count_134 : decode cX9_count 134 = .ok (.aload_n 0, 1) := dk_42 (dk_at dksX9_count_4 13 rfl rfl)
theorem dX9_count_135 : decode cX9_count 135 = .ok (.getfield 32, 3) := dk_180 0 32 (dk_at dksX9_count_4 14 rfl rfl)
theorem dX9_count_138 : decode cX9_count 138 = .ok (.iconst 1, 1) := dk_4 (dk_at dksX9_count_4 17 rfl rfl)
theorem dX9_count_139 : decode cX9_count 139 = .ok (.iaload, 1) := dk_46 (dk_at dksX9_count_4 18 rfl rfl)
theorem dX9_count_140 : decode cX9_count 140 = .ok (.ireturn, 1) := dk_172 (dk_at dksX9_count_4 19 rfl rfl)
theorem dX9_count_141 : decode cX9_count 141 = .ok (.aload_n 0, 1) := dk_42 (dk_at dksX9_count_4 20 rfl rfl)
theorem dX9_count_142 : decode cX9_count 142 = .ok (.getfield 32, 3) := dk_180 0 32 (dk_at dksX9_count_4 21 rfl rfl)
theorem dX9_count_145 : decode cX9_count 145 = .ok (.iconst 0, 1) := dk_3 (dk_at dksX9_count_5 0 rfl rfl)
theorem dX9_count_146 : decode cX9_count 146 = .ok (.iaload, 1) := dk_46 (dk_at dksX9_count_5 1 rfl rfl)
theorem dX9_count_147 : decode cX9_count 147 = .ok (.ireturn, 1) := dk_172 (dk_at dksX9_count_5 2 rfl rfl)
theorem dX9_count_148 : decode cX9_count 148 = .ok (.aload_n 0, 1) := dk_42 (dk_at dksX9_count_5 3 rfl rfl)
theorem dX9_count_149 : decode cX9_count 149 = .ok (.getfield 32, 3) := dk_180 0 32 (dk_at dksX9_count_5 4 rfl rfl)
theorem dX9_count_152 : decode cX9_count 152 = .ok (.iconst 2, 1) := dk_5 (dk_at dksX9_count_5 7 rfl rfl)
theorem dX9_count_153 : decode cX9_count 153 = .ok (.iaload, 1) := dk_46 (dk_at dksX9_count_5 8 rfl rfl)
theorem dX9_count_154 : decode cX9_count 154 = .ok (.ireturn, 1) := dk_172 (dk_at dksX9_count_5 9 rfl rfl)
theorem dX9_count_155 : decode cX9_count 155 = .ok (.aload_n 0, 1) := dk_42 (dk_at dksX9_count_5 10 rfl rfl)
theorem dX9_count_156 : decode cX9_count 156 = .ok (.getfield 32, 3) := dk_180 0 32 (dk_at dksX9_count_5 11 rfl rfl)
theorem dX9_count_159 : decode cX9_count 159 = .ok (.iconst 4, 1) := dk_7 (dk_at dksX9_count_5 14 rfl rfl)
theorem dX9_count_160 : decode cX9_count 160 = .ok (.iaload, 1) := dk_46 (dk_at dksX9_count_5 15 rfl rfl)
theorem dX9_count_161 : decode cX9_count 161 = .ok (.ireturn, 1) := dk_172 (dk_at dksX9_count_5 16 rfl rfl)
theorem dX9_count_162 : decode cX9_count 162 = .ok (.aload_n 0, 1) := dk_42 (dk_at dksX9_count_5 17 rfl rfl)
theorem dX9_count_163 : decode cX9_count 163 = .ok (.getfield 32, 3) := dk_180 0 32 (dk_at dksX9_count_5 18 rfl rfl)
theorem dX9_count_166 : decode cX9_count 166 = .ok (.iconst 5, 1) := dk_8 (dk_at dksX9_count_5 21 rfl rfl)
theorem dX9_count_167 : decode cX9_count 167 = .ok (.iaload, 1) := dk_46 (dk_at dksX9_count_5 22 rfl rfl)
theorem dX9_count_168 : decode cX9_count 168 = .ok (.ireturn, 1) := dk_172 (dk_at dksX9_count_5 23 rfl rfl)
theorem dX9_count_169 : decode cX9_count 169 = .ok (.aload_n 0, 1) := dk_42 (dk_at dksX9_count_6 0 rfl rfl)
theorem dX9_count_170 : decode cX9_count 170 = .ok (.getfield 104, 3) := dk_180 0 104 (dk_at dksX9_count_6 1 rfl rfl)
theorem dX9_count_173 : decode cX9_count 173 = .ok (.ireturn, 1) := dk_172 (dk_at dksX9_count_6 4 rfl rfl)
theorem dX9_count_174 : decode cX9_count 174 = .ok (.aload_n 0, 1) := dk_42 (dk_at dksX9_count_6 5 rfl rfl)
theorem dX9_count_175 : decode cX9_count 175 = .ok (.getfield 52, 3) := dk_180 0 52 (dk_at dksX9_count_6 6 rfl rfl)
theorem dX9_count_178 : decode cX9_count 178 = .ok (.ireturn, 1) := dk_172 (dk_at dksX9_count_6 9 rfl rfl)
theorem dX9_count_179 : decode cX9_count 179 = .ok (.aload_n 0, 1) := dk_42 (dk_at dksX9_count_6 10 rfl rfl)
theorem dX9_count_180 : decode cX9_count 180 = .ok (.getfield 32, 3) := dk_180 0 32 (dk_at dksX9_count_6 11 rfl rfl)
theorem dX9_count_183 : decode cX9_count 183 = .ok (.bipush 6, 2) := dk_16 6 (dk_at dksX9_count_6 14 rfl rfl)
theorem dX9_count_185 : decode cX9_count 185 = .ok (.iaload, 1) := dk_46 (dk_at dksX9_count_6 16 rfl rfl)
theorem dX9_count_186 : decode cX9_count 186 = .ok (.ireturn, 1) := dk_172 (dk_at dksX9_count_6 17 rfl rfl)
theorem dX9_count_187 : decode cX9_count 187 = .ok (.iconst (-1), 1) := dk_2 (dk_at dksX9_count_6 18 rfl rfl)
theorem dX9_count_188 : decode cX9_count 188 = .ok (.ireturn, 1) := dk_172 (dk_at dksX9_count_6 19 rfl rfl)
theorem q165 : (Jvm.Cond.initialized "ExemptDeskModel") ∈ lw_all := lw_g (lw_at lw_m1 43 rfl) rfl
theorem q230 : (Jvm.Cond.selects "ExemptDeskModel" ({ cls := "java/lang/Object", name := "getClass", desc := "()Ljava/lang/Class;" } : Jvm.MethodName) ({ cls := "java/lang/Object", name := "getClass", desc := "()Ljava/lang/Class;" } : Jvm.MethodName)) ∈ lw_all := lw_g (lw_at lw_m1 108 rfl) rfl
theorem q2360 : (Jvm.Cond.instantiable "ExemptDeskModel" (29 : Nat)) ∈ lw_all := lw_g (lw_at lw_m10 78 rfl) rfl
theorem q2362 : (Jvm.Cond.instanceMethod ({ cls := "ExemptDeskModel", name := "<init>", desc := "()V" } : Jvm.MethodName)) ∈ lw_all := lw_g (lw_at lw_m10 80 rfl) rfl
theorem q2363 : (Jvm.Cond.code ({ cls := "ExemptDeskModel", name := "<init>", desc := "()V" } : Jvm.MethodName) prog_17_method_1_code (1 : Nat) (Option.none : Option Jvm.ClassFile.FieldType)) ∈ lw_all := lw_g (lw_at lw_m10 81 rfl) rfl
theorem q2364 : (Jvm.Cond.methodLink "ExemptDeskModel" (1 : Nat) ({ cls := "java/lang/Object", name := "<init>", desc := "()V" } : Jvm.MethodName)) ∈ lw_all := lw_g (lw_at lw_m10 82 rfl) rfl
theorem q2365 : (Jvm.Cond.constant "ExemptDeskModel" (35 : Nat) (56764 : Int32)) ∈ lw_all := lw_g (lw_at lw_m10 83 rfl) rfl
theorem q2366 : (Jvm.Cond.methodLink "ExemptDeskModel" (43 : Nat) ({ cls := "ExemptDeskModel", name := "plain", desc := "()V" } : Jvm.MethodName)) ∈ lw_all := lw_g (lw_at lw_m10 84 rfl) rfl
theorem q2367 : (Jvm.Cond.privateMethod ({ cls := "ExemptDeskModel", name := "plain", desc := "()V" } : Jvm.MethodName)) ∈ lw_tbl := lw_at lw_m10 85 rfl
theorem q2368 : (Jvm.Cond.instanceMethod ({ cls := "ExemptDeskModel", name := "plain", desc := "()V" } : Jvm.MethodName)) ∈ lw_all := lw_g (lw_at lw_m10 86 rfl) rfl
theorem q2369 : (Jvm.Cond.code ({ cls := "ExemptDeskModel", name := "plain", desc := "()V" } : Jvm.MethodName) prog_17_method_11_code (2 : Nat) (Option.none : Option Jvm.ClassFile.FieldType)) ∈ lw_all := lw_g (lw_at lw_m10 87 rfl) rfl
theorem q2370 : (Jvm.Cond.methodLink "ExemptDeskModel" (46 : Nat) ({ cls := "ExemptDeskModel", name := "keepText", desc := "()V" } : Jvm.MethodName)) ∈ lw_all := lw_g (lw_at lw_m10 88 rfl) rfl
theorem q2371 : (Jvm.Cond.privateMethod ({ cls := "ExemptDeskModel", name := "keepText", desc := "()V" } : Jvm.MethodName)) ∈ lw_tbl := lw_at lw_m10 89 rfl
theorem q2372 : (Jvm.Cond.instanceMethod ({ cls := "ExemptDeskModel", name := "keepText", desc := "()V" } : Jvm.MethodName)) ∈ lw_all := lw_g (lw_at lw_m10 90 rfl) rfl
theorem q2373 : (Jvm.Cond.code ({ cls := "ExemptDeskModel", name := "keepText", desc := "()V" } : Jvm.MethodName) prog_17_method_13_code (2 : Nat) (Option.none : Option Jvm.ClassFile.FieldType)) ∈ lw_all := lw_g (lw_at lw_m10 91 rfl) rfl
theorem q2374 : (Jvm.Cond.methodLink "ExemptDeskModel" (97 : Nat) ({ cls := "ExemptDeskModel", name := "copies", desc := "([II)V" } : Jvm.MethodName)) ∈ lw_all := lw_g (lw_at lw_m10 92 rfl) rfl
theorem q2375 : (Jvm.Cond.static ({ cls := "ExemptDeskModel", name := "copies", desc := "([II)V" } : Jvm.MethodName)) ∈ lw_all := lw_g (lw_at lw_m10 93 rfl) rfl
theorem q2376 : (Jvm.Cond.code ({ cls := "ExemptDeskModel", name := "copies", desc := "([II)V" } : Jvm.MethodName) prog_17_method_12_code (3 : Nat) (Option.none : Option Jvm.ClassFile.FieldType)) ∈ lw_all := lw_g (lw_at lw_m10 94 rfl) rfl
theorem q2377 : (Jvm.Cond.methodLink "ExemptDeskModel" (111 : Nat) ({ cls := "ExemptDeskModel", name := "lay", desc := "(II)V" } : Jvm.MethodName)) ∈ lw_all := lw_g (lw_at lw_m10 95 rfl) rfl
theorem q2378 : (Jvm.Cond.privateMethod ({ cls := "ExemptDeskModel", name := "lay", desc := "(II)V" } : Jvm.MethodName)) ∈ lw_tbl := lw_at lw_m10 96 rfl
theorem q2379 : (Jvm.Cond.instanceMethod ({ cls := "ExemptDeskModel", name := "lay", desc := "(II)V" } : Jvm.MethodName)) ∈ lw_all := lw_g (lw_at lw_m10 97 rfl) rfl
theorem q2380 : (Jvm.Cond.code ({ cls := "ExemptDeskModel", name := "lay", desc := "(II)V" } : Jvm.MethodName) prog_17_method_32_code (3 : Nat) (Option.none : Option Jvm.ClassFile.FieldType)) ∈ lw_all := lw_g (lw_at lw_m10 98 rfl) rfl
theorem q2381 : (Jvm.Cond.methodLink "ExemptDeskModel" (115 : Nat) ({ cls := "ExemptDeskModel", name := "told1", desc := "(II)I" } : Jvm.MethodName)) ∈ lw_all := lw_g (lw_at lw_m10 99 rfl) rfl
theorem q2382 : (Jvm.Cond.privateMethod ({ cls := "ExemptDeskModel", name := "told1", desc := "(II)I" } : Jvm.MethodName)) ∈ lw_tbl := lw_at lw_m10 100 rfl
theorem q2383 : (Jvm.Cond.instanceMethod ({ cls := "ExemptDeskModel", name := "told1", desc := "(II)I" } : Jvm.MethodName)) ∈ lw_all := lw_g (lw_at lw_m10 101 rfl) rfl
theorem q2384 : (Jvm.Cond.code ({ cls := "ExemptDeskModel", name := "told1", desc := "(II)I" } : Jvm.MethodName) prog_17_method_14_code (3 : Nat) (Option.some Jvm.ClassFile.FieldType.int)) ∈ lw_all := lw_g (lw_at lw_m10 102 rfl) rfl
theorem q2385 : (Jvm.Cond.methodLink "ExemptDeskModel" (118 : Nat) ({ cls := "ExemptDeskModel", name := "comesNow", desc := "()V" } : Jvm.MethodName)) ∈ lw_all := lw_g (lw_at lw_m10 103 rfl) rfl
theorem q2386 : (Jvm.Cond.privateMethod ({ cls := "ExemptDeskModel", name := "comesNow", desc := "()V" } : Jvm.MethodName)) ∈ lw_tbl := lw_at lw_m10 104 rfl
theorem q2387 : (Jvm.Cond.instanceMethod ({ cls := "ExemptDeskModel", name := "comesNow", desc := "()V" } : Jvm.MethodName)) ∈ lw_all := lw_g (lw_at lw_m10 105 rfl) rfl
theorem q2388 : (Jvm.Cond.code ({ cls := "ExemptDeskModel", name := "comesNow", desc := "()V" } : Jvm.MethodName) prog_17_method_43_code (3 : Nat) (Option.none : Option Jvm.ClassFile.FieldType)) ∈ lw_all := lw_g (lw_at lw_m10 106 rfl) rfl
theorem q2389 : (Jvm.Cond.methodLink "ExemptDeskModel" (174 : Nat) ({ cls := "ExemptDeskModel", name := "of", desc := "(I)I" } : Jvm.MethodName)) ∈ lw_all := lw_g (lw_at lw_m10 107 rfl) rfl
theorem q2390 : (Jvm.Cond.privateMethod ({ cls := "ExemptDeskModel", name := "of", desc := "(I)I" } : Jvm.MethodName)) ∈ lw_tbl := lw_at lw_m10 108 rfl
theorem q2391 : (Jvm.Cond.instanceMethod ({ cls := "ExemptDeskModel", name := "of", desc := "(I)I" } : Jvm.MethodName)) ∈ lw_all := lw_g (lw_at lw_m10 109 rfl) rfl
theorem q2392 : (Jvm.Cond.code ({ cls := "ExemptDeskModel", name := "of", desc := "(I)I" } : Jvm.MethodName) prog_17_method_31_code (2 : Nat) (Option.some Jvm.ClassFile.FieldType.int)) ∈ lw_all := lw_g (lw_at lw_m10 110 rfl) rfl
theorem q2393 : (Jvm.Cond.methodLink "ExemptDeskModel" (181 : Nat) ({ cls := "ExemptDeskModel", name := "sumAt", desc := "(III)I" } : Jvm.MethodName)) ∈ lw_all := lw_g (lw_at lw_m10 111 rfl) rfl
theorem q2394 : (Jvm.Cond.privateMethod ({ cls := "ExemptDeskModel", name := "sumAt", desc := "(III)I" } : Jvm.MethodName)) ∈ lw_tbl := lw_at lw_m10 112 rfl
theorem q2395 : (Jvm.Cond.instanceMethod ({ cls := "ExemptDeskModel", name := "sumAt", desc := "(III)I" } : Jvm.MethodName)) ∈ lw_all := lw_g (lw_at lw_m10 113 rfl) rfl
theorem q2396 : (Jvm.Cond.code ({ cls := "ExemptDeskModel", name := "sumAt", desc := "(III)I" } : Jvm.MethodName) prog_17_method_42_code (4 : Nat) (Option.some Jvm.ClassFile.FieldType.int)) ∈ lw_all := lw_g (lw_at lw_m10 114 rfl) rfl
theorem q2397 : (Jvm.Cond.methodLink "ExemptDeskModel" (184 : Nat) ({ cls := "ExemptDeskModel", name := "add", desc := "(II)V" } : Jvm.MethodName)) ∈ lw_all := lw_g (lw_at lw_m10 115 rfl) rfl
theorem q2398 : (Jvm.Cond.privateMethod ({ cls := "ExemptDeskModel", name := "add", desc := "(II)V" } : Jvm.MethodName)) ∈ lw_tbl := lw_at lw_m10 116 rfl
theorem q2399 : (Jvm.Cond.instanceMethod ({ cls := "ExemptDeskModel", name := "add", desc := "(II)V" } : Jvm.MethodName)) ∈ lw_all := lw_g (lw_at lw_m10 117 rfl) rfl
theorem q2400 : (Jvm.Cond.code ({ cls := "ExemptDeskModel", name := "add", desc := "(II)V" } : Jvm.MethodName) prog_17_method_33_code (3 : Nat) (Option.none : Option Jvm.ClassFile.FieldType)) ∈ lw_all := lw_g (lw_at lw_m10 118 rfl) rfl
theorem q2401 : (Jvm.Cond.methodLink "ExemptDeskModel" (187 : Nat) ({ cls := "ExemptDeskModel", name := "acquires", desc := "(IIII)I" } : Jvm.MethodName)) ∈ lw_all := lw_g (lw_at lw_m10 119 rfl) rfl
theorem q2402 : (Jvm.Cond.privateMethod ({ cls := "ExemptDeskModel", name := "acquires", desc := "(IIII)I" } : Jvm.MethodName)) ∈ lw_tbl := lw_at lw_m10 120 rfl
theorem q2403 : (Jvm.Cond.instanceMethod ({ cls := "ExemptDeskModel", name := "acquires", desc := "(IIII)I" } : Jvm.MethodName)) ∈ lw_all := lw_g (lw_at lw_m10 121 rfl) rfl
theorem q2404 : (Jvm.Cond.code ({ cls := "ExemptDeskModel", name := "acquires", desc := "(IIII)I" } : Jvm.MethodName) prog_17_method_44_code (7 : Nat) (Option.some Jvm.ClassFile.FieldType.int)) ∈ lw_all := lw_g (lw_at lw_m10 122 rfl) rfl
theorem q2405 : (Jvm.Cond.methodLink "ExemptDeskModel" (191 : Nat) ({ cls := "ExemptDeskModel", name := "put", desc := "(III)V" } : Jvm.MethodName)) ∈ lw_all := lw_g (lw_at lw_m10 123 rfl) rfl
theorem q2406 : (Jvm.Cond.privateMethod ({ cls := "ExemptDeskModel", name := "put", desc := "(III)V" } : Jvm.MethodName)) ∈ lw_tbl := lw_at lw_m10 124 rfl
theorem q2407 : (Jvm.Cond.instanceMethod ({ cls := "ExemptDeskModel", name := "put", desc := "(III)V" } : Jvm.MethodName)) ∈ lw_all := lw_g (lw_at lw_m10 125 rfl) rfl
theorem q2408 : (Jvm.Cond.code ({ cls := "ExemptDeskModel", name := "put", desc := "(III)V" } : Jvm.MethodName) prog_17_method_35_code (4 : Nat) (Option.none : Option Jvm.ClassFile.FieldType)) ∈ lw_all := lw_g (lw_at lw_m10 126 rfl) rfl
theorem q2409 : (Jvm.Cond.fieldLink "ExemptDeskModel" (7 : Nat) "ExemptDeskModel" "tape" "[I") ∈ lw_all := lw_g (lw_at lw_m10 127 rfl) rfl
theorem q2410 : (Jvm.Cond.fieldLink "ExemptDeskModel" (52 : Nat) "ExemptDeskModel" "tapeSize" "I") ∈ lw_all := lw_g (lw_at lw_m10 128 rfl) rfl
theorem q2411 : (Jvm.Cond.fieldLink "ExemptDeskModel" (49 : Nat) "ExemptDeskModel" "thrown" "I") ∈ lw_all := lw_g (lw_at lw_m10 129 rfl) rfl
theorem q2412 : (Jvm.Cond.fieldLink "ExemptDeskModel" (13 : Nat) "ExemptDeskModel" "words" "[I") ∈ lw_all := lw_g (lw_at lw_m10 130 rfl) rfl
theorem q2413 : (Jvm.Cond.fieldLink "ExemptDeskModel" (55 : Nat) "ExemptDeskModel" "fault" "I") ∈ lw_all := lw_g (lw_at lw_m10 131 rfl) rfl
theorem q2414 : (Jvm.Cond.fieldLink "ExemptDeskModel" (16 : Nat) "ExemptDeskModel" "faultPlace" "I") ∈ lw_all := lw_g (lw_at lw_m10 132 rfl) rfl
theorem q2415 : (Jvm.Cond.fieldLink "ExemptDeskModel" (61 : Nat) "ExemptDeskModel" "stop" "I") ∈ lw_all := lw_g (lw_at lw_m10 133 rfl) rfl
theorem q2416 : (Jvm.Cond.fieldLink "ExemptDeskModel" (64 : Nat) "ExemptDeskModel" "next" "I") ∈ lw_all := lw_g (lw_at lw_m10 134 rfl) rfl
theorem q2417 : (Jvm.Cond.fieldLink "ExemptDeskModel" (67 : Nat) "ExemptDeskModel" "kind" "I") ∈ lw_all := lw_g (lw_at lw_m10 135 rfl) rfl
theorem q2418 : (Jvm.Cond.fieldLink "ExemptDeskModel" (78 : Nat) "ExemptDeskModel" "which" "I") ∈ lw_all := lw_g (lw_at lw_m10 136 rfl) rfl
theorem q2419 : (Jvm.Cond.fieldLink "ExemptDeskModel" (58 : Nat) "ExemptDeskModel" "at" "I") ∈ lw_all := lw_g (lw_at lw_m10 137 rfl) rfl
theorem q2420 : (Jvm.Cond.fieldLink "ExemptDeskModel" (94 : Nat) "ExemptDeskModel" "traders" "I") ∈ lw_all := lw_g (lw_at lw_m10 138 rfl) rfl
theorem q2421 : (Jvm.Cond.fieldLink "ExemptDeskModel" (88 : Nat) "ExemptDeskModel" "tradersRead" "I") ∈ lw_all := lw_g (lw_at lw_m10 139 rfl) rfl
theorem q2422 : (Jvm.Cond.fieldLink "ExemptDeskModel" (20 : Nat) "ExemptDeskModel" "trader" "[I") ∈ lw_all := lw_g (lw_at lw_m10 140 rfl) rfl
theorem q2423 : (Jvm.Cond.fieldLink "ExemptDeskModel" (23 : Nat) "ExemptDeskModel" "sales" "[I") ∈ lw_all := lw_g (lw_at lw_m10 141 rfl) rfl
theorem q2424 : (Jvm.Cond.fieldLink "ExemptDeskModel" (26 : Nat) "ExemptDeskModel" "buys" "[I") ∈ lw_all := lw_g (lw_at lw_m10 142 rfl) rfl
theorem q2425 : (Jvm.Cond.fieldLink "ExemptDeskModel" (29 : Nat) "ExemptDeskModel" "assets" "[I") ∈ lw_all := lw_g (lw_at lw_m10 143 rfl) rfl
theorem q2426 : (Jvm.Cond.fieldLink "ExemptDeskModel" (32 : Nat) "ExemptDeskModel" "told" "[I") ∈ lw_all := lw_g (lw_at lw_m10 144 rfl) rfl
theorem q2427 : (Jvm.Cond.fieldLink "ExemptDeskModel" (91 : Nat) "ExemptDeskModel" "toldWords" "I") ∈ lw_all := lw_g (lw_at lw_m10 145 rfl) rfl
theorem q2428 : (Jvm.Cond.fieldLink "ExemptDeskModel" (128 : Nat) "ExemptDeskModel" "got" "I") ∈ lw_all := lw_g (lw_at lw_m10 146 rfl) rfl
theorem q2429 : (Jvm.Cond.fieldLink "ExemptDeskModel" (36 : Nat) "ExemptDeskModel" "all" "[I") ∈ lw_all := lw_g (lw_at lw_m10 147 rfl) rfl
theorem q2430 : (Jvm.Cond.fieldLink "ExemptDeskModel" (101 : Nat) "ExemptDeskModel" "bank" "I") ∈ lw_all := lw_g (lw_at lw_m10 148 rfl) rfl
theorem q2431 : (Jvm.Cond.fieldLink "ExemptDeskModel" (104 : Nat) "ExemptDeskModel" "undos" "I") ∈ lw_all := lw_g (lw_at lw_m10 149 rfl) rfl
theorem q2432 : (Jvm.Cond.fieldLink "ExemptDeskModel" (107 : Nat) "ExemptDeskModel" "isImage" "Z") ∈ lw_all := lw_g (lw_at lw_m10 150 rfl) rfl
theorem q2433 : (Jvm.Cond.fieldLink "ExemptDeskModel" (39 : Nat) "ExemptDeskModel" "sum" "[J") ∈ lw_all := lw_g (lw_at lw_m10 151 rfl) rfl
theorem q2434 : (Jvm.Cond.fieldLink "ExemptDeskModel" (205 : Nat) "ExemptDeskModel" "headsOwn" "J") ∈ lw_all := lw_g (lw_at lw_m10 152 rfl) rfl
theorem q2435 : (Jvm.Cond.fieldLink "ExemptDeskModel" (209 : Nat) "ExemptDeskModel" "headsAll" "J") ∈ lw_all := lw_g (lw_at lw_m10 153 rfl) rfl
theorem q2436 : (Jvm.Cond.fieldLink "ExemptDeskModel" (225 : Nat) "ExemptDeskModel" "isSmall" "Z") ∈ lw_all := lw_g (lw_at lw_m10 154 rfl) rfl
theorem q2437 : (Jvm.Cond.fieldLink "ExemptDeskModel" (339 : Nat) "ExemptDeskModel" "drawn" "J") ∈ lw_all := lw_g (lw_at lw_m10 155 rfl) rfl
theorem q2438 : (Jvm.Cond.laysFinal "ExemptDeskModel" "ExemptDeskModel" "tape" "[I") ∈ lw_all := lw_g (lw_at lw_m10 156 rfl) rfl
theorem q2439 : (Jvm.Cond.soleField "ExemptDeskModel" "tape") ∈ lw_all := lw_g (lw_at lw_m10 157 rfl) rfl
theorem q2440 : (Jvm.Cond.lays "ExemptDeskModel" "ExemptDeskModel" "tapeSize" "I") ∈ lw_all := lw_g (lw_at lw_m10 158 rfl) rfl
theorem q2441 : (Jvm.Cond.soleField "ExemptDeskModel" "tapeSize") ∈ lw_all := lw_g (lw_at lw_m10 159 rfl) rfl
theorem q2442 : (Jvm.Cond.lays "ExemptDeskModel" "ExemptDeskModel" "thrown" "I") ∈ lw_all := lw_g (lw_at lw_m10 160 rfl) rfl
theorem q2443 : (Jvm.Cond.soleField "ExemptDeskModel" "thrown") ∈ lw_all := lw_g (lw_at lw_m10 161 rfl) rfl
theorem q2444 : (Jvm.Cond.laysFinal "ExemptDeskModel" "ExemptDeskModel" "words" "[I") ∈ lw_all := lw_g (lw_at lw_m10 162 rfl) rfl
theorem q2445 : (Jvm.Cond.soleField "ExemptDeskModel" "words") ∈ lw_all := lw_g (lw_at lw_m10 163 rfl) rfl
theorem q2446 : (Jvm.Cond.lays "ExemptDeskModel" "ExemptDeskModel" "fault" "I") ∈ lw_all := lw_g (lw_at lw_m10 164 rfl) rfl
theorem q2447 : (Jvm.Cond.soleField "ExemptDeskModel" "fault") ∈ lw_all := lw_g (lw_at lw_m10 165 rfl) rfl
theorem q2448 : (Jvm.Cond.lays "ExemptDeskModel" "ExemptDeskModel" "faultPlace" "I") ∈ lw_all := lw_g (lw_at lw_m10 166 rfl) rfl
theorem q2449 : (Jvm.Cond.soleField "ExemptDeskModel" "faultPlace") ∈ lw_all := lw_g (lw_at lw_m10 167 rfl) rfl
theorem q2450 : (Jvm.Cond.lays "ExemptDeskModel" "ExemptDeskModel" "stop" "I") ∈ lw_all := lw_g (lw_at lw_m10 168 rfl) rfl
theorem q2451 : (Jvm.Cond.soleField "ExemptDeskModel" "stop") ∈ lw_all := lw_g (lw_at lw_m10 169 rfl) rfl
theorem q2452 : (Jvm.Cond.lays "ExemptDeskModel" "ExemptDeskModel" "next" "I") ∈ lw_all := lw_g (lw_at lw_m10 170 rfl) rfl
theorem q2453 : (Jvm.Cond.soleField "ExemptDeskModel" "next") ∈ lw_all := lw_g (lw_at lw_m10 171 rfl) rfl
theorem q2454 : (Jvm.Cond.lays "ExemptDeskModel" "ExemptDeskModel" "kind" "I") ∈ lw_all := lw_g (lw_at lw_m10 172 rfl) rfl
theorem q2455 : (Jvm.Cond.soleField "ExemptDeskModel" "kind") ∈ lw_all := lw_g (lw_at lw_m10 173 rfl) rfl
theorem q2456 : (Jvm.Cond.lays "ExemptDeskModel" "ExemptDeskModel" "which" "I") ∈ lw_all := lw_g (lw_at lw_m10 174 rfl) rfl
theorem q2457 : (Jvm.Cond.soleField "ExemptDeskModel" "which") ∈ lw_all := lw_g (lw_at lw_m10 175 rfl) rfl
theorem q2458 : (Jvm.Cond.lays "ExemptDeskModel" "ExemptDeskModel" "at" "I") ∈ lw_all := lw_g (lw_at lw_m10 176 rfl) rfl
theorem q2459 : (Jvm.Cond.soleField "ExemptDeskModel" "at") ∈ lw_all := lw_g (lw_at lw_m10 177 rfl) rfl
theorem q2460 : (Jvm.Cond.lays "ExemptDeskModel" "ExemptDeskModel" "traders" "I") ∈ lw_all := lw_g (lw_at lw_m10 178 rfl) rfl
theorem q2461 : (Jvm.Cond.soleField "ExemptDeskModel" "traders") ∈ lw_all := lw_g (lw_at lw_m10 179 rfl) rfl
theorem q2462 : (Jvm.Cond.lays "ExemptDeskModel" "ExemptDeskModel" "tradersRead" "I") ∈ lw_all := lw_g (lw_at lw_m10 180 rfl) rfl
theorem q2463 : (Jvm.Cond.soleField "ExemptDeskModel" "tradersRead") ∈ lw_all := lw_g (lw_at lw_m10 181 rfl) rfl
theorem q2464 : (Jvm.Cond.laysFinal "ExemptDeskModel" "ExemptDeskModel" "trader" "[I") ∈ lw_all := lw_g (lw_at lw_m10 182 rfl) rfl
theorem q2465 : (Jvm.Cond.soleField "ExemptDeskModel" "trader") ∈ lw_all := lw_g (lw_at lw_m10 183 rfl) rfl
theorem q2466 : (Jvm.Cond.laysFinal "ExemptDeskModel" "ExemptDeskModel" "sales" "[I") ∈ lw_all := lw_g (lw_at lw_m10 184 rfl) rfl
theorem q2467 : (Jvm.Cond.soleField "ExemptDeskModel" "sales") ∈ lw_all := lw_g (lw_at lw_m10 185 rfl) rfl
theorem q2468 : (Jvm.Cond.laysFinal "ExemptDeskModel" "ExemptDeskModel" "buys" "[I") ∈ lw_all := lw_g (lw_at lw_m10 186 rfl) rfl
theorem q2469 : (Jvm.Cond.soleField "ExemptDeskModel" "buys") ∈ lw_all := lw_g (lw_at lw_m10 187 rfl) rfl
theorem q2470 : (Jvm.Cond.laysFinal "ExemptDeskModel" "ExemptDeskModel" "assets" "[I") ∈ lw_all := lw_g (lw_at lw_m10 188 rfl) rfl
theorem q2471 : (Jvm.Cond.soleField "ExemptDeskModel" "assets") ∈ lw_all := lw_g (lw_at lw_m10 189 rfl) rfl
theorem q2472 : (Jvm.Cond.laysFinal "ExemptDeskModel" "ExemptDeskModel" "told" "[I") ∈ lw_all := lw_g (lw_at lw_m10 190 rfl) rfl
theorem q2473 : (Jvm.Cond.soleField "ExemptDeskModel" "told") ∈ lw_all := lw_g (lw_at lw_m10 191 rfl) rfl
theorem q2474 : (Jvm.Cond.lays "ExemptDeskModel" "ExemptDeskModel" "toldWords" "I") ∈ lw_all := lw_g (lw_at lw_m10 192 rfl) rfl
theorem q2475 : (Jvm.Cond.soleField "ExemptDeskModel" "toldWords") ∈ lw_all := lw_g (lw_at lw_m10 193 rfl) rfl
theorem q2476 : (Jvm.Cond.lays "ExemptDeskModel" "ExemptDeskModel" "got" "I") ∈ lw_all := lw_g (lw_at lw_m10 194 rfl) rfl
theorem q2477 : (Jvm.Cond.soleField "ExemptDeskModel" "got") ∈ lw_all := lw_g (lw_at lw_m10 195 rfl) rfl
theorem q2478 : (Jvm.Cond.laysFinal "ExemptDeskModel" "ExemptDeskModel" "all" "[I") ∈ lw_all := lw_g (lw_at lw_m10 196 rfl) rfl
theorem q2479 : (Jvm.Cond.soleField "ExemptDeskModel" "all") ∈ lw_all := lw_g (lw_at lw_m10 197 rfl) rfl
theorem q2480 : (Jvm.Cond.lays "ExemptDeskModel" "ExemptDeskModel" "bank" "I") ∈ lw_all := lw_g (lw_at lw_m10 198 rfl) rfl
theorem q2481 : (Jvm.Cond.soleField "ExemptDeskModel" "bank") ∈ lw_all := lw_g (lw_at lw_m10 199 rfl) rfl
theorem q2482 : (Jvm.Cond.lays "ExemptDeskModel" "ExemptDeskModel" "undos" "I") ∈ lw_all := lw_g (lw_at lw_m10 200 rfl) rfl
theorem q2483 : (Jvm.Cond.soleField "ExemptDeskModel" "undos") ∈ lw_all := lw_g (lw_at lw_m10 201 rfl) rfl
theorem q2484 : (Jvm.Cond.lays "ExemptDeskModel" "ExemptDeskModel" "isImage" "Z") ∈ lw_all := lw_g (lw_at lw_m10 202 rfl) rfl
theorem q2485 : (Jvm.Cond.soleField "ExemptDeskModel" "isImage") ∈ lw_all := lw_g (lw_at lw_m10 203 rfl) rfl
theorem q2486 : (Jvm.Cond.laysFinal "ExemptDeskModel" "ExemptDeskModel" "sum" "[J") ∈ lw_all := lw_g (lw_at lw_m10 204 rfl) rfl
theorem q2487 : (Jvm.Cond.soleField "ExemptDeskModel" "sum") ∈ lw_all := lw_g (lw_at lw_m10 205 rfl) rfl
theorem q2488 : (Jvm.Cond.lays "ExemptDeskModel" "ExemptDeskModel" "headsOwn" "J") ∈ lw_all := lw_g (lw_at lw_m10 206 rfl) rfl
theorem q2489 : (Jvm.Cond.soleField "ExemptDeskModel" "headsOwn") ∈ lw_all := lw_g (lw_at lw_m10 207 rfl) rfl
theorem q2490 : (Jvm.Cond.lays "ExemptDeskModel" "ExemptDeskModel" "headsAll" "J") ∈ lw_all := lw_g (lw_at lw_m10 208 rfl) rfl
theorem q2491 : (Jvm.Cond.soleField "ExemptDeskModel" "headsAll") ∈ lw_all := lw_g (lw_at lw_m10 209 rfl) rfl
theorem q2492 : (Jvm.Cond.lays "ExemptDeskModel" "ExemptDeskModel" "isSmall" "Z") ∈ lw_all := lw_g (lw_at lw_m10 210 rfl) rfl
theorem q2493 : (Jvm.Cond.soleField "ExemptDeskModel" "isSmall") ∈ lw_all := lw_g (lw_at lw_m10 211 rfl) rfl
theorem q2494 : (Jvm.Cond.lays "ExemptDeskModel" "ExemptDeskModel" "drawn" "J") ∈ lw_all := lw_g (lw_at lw_m10 212 rfl) rfl
theorem q2495 : (Jvm.Cond.soleField "ExemptDeskModel" "drawn") ∈ lw_all := lw_g (lw_at lw_m10 213 rfl) rfl
theorem q2496 : (Jvm.Cond.superclass "ExemptDeskModel" "java/lang/Object") ∈ lw_all := lw_g (lw_at lw_m10 214 rfl) rfl
theorem q2498 : (Jvm.Cond.instanceMethod ({ cls := "ExemptDeskModel", name := "thrown", desc := "()I" } : Jvm.MethodName)) ∈ lw_all := lw_g (lw_at lw_m10 216 rfl) rfl
theorem q2499 : (Jvm.Cond.selects "ExemptDeskModel" ({ cls := "ExemptDeskModel", name := "thrown", desc := "()I" } : Jvm.MethodName) ({ cls := "ExemptDeskModel", name := "thrown", desc := "()I" } : Jvm.MethodName)) ∈ lw_all := lw_g (lw_at lw_m10 217 rfl) rfl
theorem q2500 : (Jvm.Cond.code ({ cls := "ExemptDeskModel", name := "thrown", desc := "()I" } : Jvm.MethodName) prog_17_method_2_code (1 : Nat) (Option.some Jvm.ClassFile.FieldType.int)) ∈ lw_all := lw_g (lw_at lw_m10 218 rfl) rfl
theorem q2502 : (Jvm.Cond.instanceMethod ({ cls := "ExemptDeskModel", name := "feed", desc := "(IIIII)I" } : Jvm.MethodName)) ∈ lw_all := lw_g (lw_at lw_m10 220 rfl) rfl
theorem q2503 : (Jvm.Cond.selects "ExemptDeskModel" ({ cls := "ExemptDeskModel", name := "feed", desc := "(IIIII)I" } : Jvm.MethodName) ({ cls := "ExemptDeskModel", name := "feed", desc := "(IIIII)I" } : Jvm.MethodName)) ∈ lw_all := lw_g (lw_at lw_m10 221 rfl) rfl
theorem q2504 : (Jvm.Cond.code ({ cls := "ExemptDeskModel", name := "feed", desc := "(IIIII)I" } : Jvm.MethodName) prog_17_method_3_code (8 : Nat) (Option.some Jvm.ClassFile.FieldType.int)) ∈ lw_all := lw_g (lw_at lw_m10 222 rfl) rfl
theorem q2506 : (Jvm.Cond.instanceMethod ({ cls := "ExemptDeskModel", name := "text", desc := "(I)I" } : Jvm.MethodName)) ∈ lw_all := lw_g (lw_at lw_m10 224 rfl) rfl
theorem q2507 : (Jvm.Cond.selects "ExemptDeskModel" ({ cls := "ExemptDeskModel", name := "text", desc := "(I)I" } : Jvm.MethodName) ({ cls := "ExemptDeskModel", name := "text", desc := "(I)I" } : Jvm.MethodName)) ∈ lw_all := lw_g (lw_at lw_m10 225 rfl) rfl
theorem q2508 : (Jvm.Cond.code ({ cls := "ExemptDeskModel", name := "text", desc := "(I)I" } : Jvm.MethodName) prog_17_method_27_code (3 : Nat) (Option.some Jvm.ClassFile.FieldType.int)) ∈ lw_all := lw_g (lw_at lw_m10 226 rfl) rfl
theorem q2509 : (Jvm.Cond.methodLink "ExemptDeskModel" (131 : Nat) ({ cls := "ExemptDeskModel", name := "token", desc := "()V" } : Jvm.MethodName)) ∈ lw_all := lw_g (lw_at lw_m10 227 rfl) rfl
theorem q2510 : (Jvm.Cond.privateMethod ({ cls := "ExemptDeskModel", name := "token", desc := "()V" } : Jvm.MethodName)) ∈ lw_tbl := lw_at lw_m10 228 rfl
theorem q2511 : (Jvm.Cond.instanceMethod ({ cls := "ExemptDeskModel", name := "token", desc := "()V" } : Jvm.MethodName)) ∈ lw_all := lw_g (lw_at lw_m10 229 rfl) rfl
theorem q2512 : (Jvm.Cond.code ({ cls := "ExemptDeskModel", name := "token", desc := "()V" } : Jvm.MethodName) prog_17_method_9_code (1 : Nat) (Option.none : Option Jvm.ClassFile.FieldType)) ∈ lw_all := lw_g (lw_at lw_m10 230 rfl) rfl
theorem q2513 : (Jvm.Cond.methodLink "ExemptDeskModel" (70 : Nat) ({ cls := "ExemptDeskModel", name := "isSmall", desc := "(I)Z" } : Jvm.MethodName)) ∈ lw_all := lw_g (lw_at lw_m10 231 rfl) rfl
theorem q2514 : (Jvm.Cond.privateMethod ({ cls := "ExemptDeskModel", name := "isSmall", desc := "(I)Z" } : Jvm.MethodName)) ∈ lw_tbl := lw_at lw_m10 232 rfl
theorem q2515 : (Jvm.Cond.instanceMethod ({ cls := "ExemptDeskModel", name := "isSmall", desc := "(I)Z" } : Jvm.MethodName)) ∈ lw_all := lw_g (lw_at lw_m10 233 rfl) rfl
theorem q2516 : (Jvm.Cond.code ({ cls := "ExemptDeskModel", name := "isSmall", desc := "(I)Z" } : Jvm.MethodName) prog_17_method_7_code (2 : Nat) (Option.some Jvm.ClassFile.FieldType.boolean)) ∈ lw_all := lw_g (lw_at lw_m10 234 rfl) rfl
theorem q2517 : (Jvm.Cond.methodLink "ExemptDeskModel" (74 : Nat) ({ cls := "ExemptDeskModel", name := "wordAt", desc := "(II)I" } : Jvm.MethodName)) ∈ lw_all := lw_g (lw_at lw_m10 235 rfl) rfl
theorem q2518 : (Jvm.Cond.privateMethod ({ cls := "ExemptDeskModel", name := "wordAt", desc := "(II)I" } : Jvm.MethodName)) ∈ lw_tbl := lw_at lw_m10 236 rfl
theorem q2519 : (Jvm.Cond.instanceMethod ({ cls := "ExemptDeskModel", name := "wordAt", desc := "(II)I" } : Jvm.MethodName)) ∈ lw_all := lw_g (lw_at lw_m10 237 rfl) rfl
theorem q2520 : (Jvm.Cond.code ({ cls := "ExemptDeskModel", name := "wordAt", desc := "(II)I" } : Jvm.MethodName) prog_17_method_6_code (8 : Nat) (Option.some Jvm.ClassFile.FieldType.int)) ∈ lw_all := lw_g (lw_at lw_m10 238 rfl) rfl
theorem q2521 : (Jvm.Cond.methodLink "ExemptDeskModel" (81 : Nat) ({ cls := "ExemptDeskModel", name := "packed", desc := "(II)I" } : Jvm.MethodName)) ∈ lw_all := lw_g (lw_at lw_m10 239 rfl) rfl
theorem q2522 : (Jvm.Cond.privateMethod ({ cls := "ExemptDeskModel", name := "packed", desc := "(II)I" } : Jvm.MethodName)) ∈ lw_tbl := lw_at lw_m11 0 rfl
theorem q2523 : (Jvm.Cond.instanceMethod ({ cls := "ExemptDeskModel", name := "packed", desc := "(II)I" } : Jvm.MethodName)) ∈ lw_all := lw_g (lw_at lw_m11 1 rfl) rfl
theorem q2524 : (Jvm.Cond.code ({ cls := "ExemptDeskModel", name := "packed", desc := "(II)I" } : Jvm.MethodName) prog_17_method_10_code (5 : Nat) (Option.some Jvm.ClassFile.FieldType.int)) ∈ lw_all := lw_g (lw_at lw_m11 2 rfl) rfl
theorem q2525 : (Jvm.Cond.methodLink "ExemptDeskModel" (84 : Nat) ({ cls := "ExemptDeskModel", name := "isDigit", desc := "(I)Z" } : Jvm.MethodName)) ∈ lw_all := lw_g (lw_at lw_m11 3 rfl) rfl
theorem q2526 : (Jvm.Cond.privateMethod ({ cls := "ExemptDeskModel", name := "isDigit", desc := "(I)Z" } : Jvm.MethodName)) ∈ lw_tbl := lw_at lw_m11 4 rfl
theorem q2527 : (Jvm.Cond.instanceMethod ({ cls := "ExemptDeskModel", name := "isDigit", desc := "(I)Z" } : Jvm.MethodName)) ∈ lw_all := lw_g (lw_at lw_m11 5 rfl) rfl
theorem q2528 : (Jvm.Cond.code ({ cls := "ExemptDeskModel", name := "isDigit", desc := "(I)Z" } : Jvm.MethodName) prog_17_method_8_code (2 : Nat) (Option.some Jvm.ClassFile.FieldType.boolean)) ∈ lw_all := lw_g (lw_at lw_m11 6 rfl) rfl
theorem q2529 : (Jvm.Cond.constant "ExemptDeskModel" (87 : Nat) (99999 : Int32)) ∈ lw_all := lw_g (lw_at lw_m11 7 rfl) rfl
theorem q2530 : (Jvm.Cond.methodLink "ExemptDeskModel" (171 : Nat) ({ cls := "ExemptDeskModel", name := "lineRead", desc := "()Z" } : Jvm.MethodName)) ∈ lw_all := lw_g (lw_at lw_m11 8 rfl) rfl
theorem q2531 : (Jvm.Cond.privateMethod ({ cls := "ExemptDeskModel", name := "lineRead", desc := "()Z" } : Jvm.MethodName)) ∈ lw_tbl := lw_at lw_m11 9 rfl
theorem q2532 : (Jvm.Cond.instanceMethod ({ cls := "ExemptDeskModel", name := "lineRead", desc := "()Z" } : Jvm.MethodName)) ∈ lw_all := lw_g (lw_at lw_m11 10 rfl) rfl
theorem q2533 : (Jvm.Cond.code ({ cls := "ExemptDeskModel", name := "lineRead", desc := "()Z" } : Jvm.MethodName) prog_17_method_26_code (2 : Nat) (Option.some Jvm.ClassFile.FieldType.boolean)) ∈ lw_all := lw_g (lw_at lw_m11 11 rfl) rfl
theorem q2534 : (Jvm.Cond.methodLink "ExemptDeskModel" (121 : Nat) ({ cls := "ExemptDeskModel", name := "wrong", desc := "(I)Z" } : Jvm.MethodName)) ∈ lw_all := lw_g (lw_at lw_m11 12 rfl) rfl
theorem q2535 : (Jvm.Cond.privateMethod ({ cls := "ExemptDeskModel", name := "wrong", desc := "(I)Z" } : Jvm.MethodName)) ∈ lw_tbl := lw_at lw_m11 13 rfl
theorem q2536 : (Jvm.Cond.instanceMethod ({ cls := "ExemptDeskModel", name := "wrong", desc := "(I)Z" } : Jvm.MethodName)) ∈ lw_all := lw_g (lw_at lw_m11 14 rfl) rfl
theorem q2537 : (Jvm.Cond.code ({ cls := "ExemptDeskModel", name := "wrong", desc := "(I)Z" } : Jvm.MethodName) prog_17_method_5_code (2 : Nat) (Option.some Jvm.ClassFile.FieldType.boolean)) ∈ lw_all := lw_g (lw_at lw_m11 15 rfl) rfl
theorem q2538 : (Jvm.Cond.methodLink "ExemptDeskModel" (150 : Nat) ({ cls := "ExemptDeskModel", name := "traderLine", desc := "()Z" } : Jvm.MethodName)) ∈ lw_all := lw_g (lw_at lw_m11 16 rfl) rfl
theorem q2539 : (Jvm.Cond.privateMethod ({ cls := "ExemptDeskModel", name := "traderLine", desc := "()Z" } : Jvm.MethodName)) ∈ lw_tbl := lw_at lw_m11 17 rfl
theorem q2540 : (Jvm.Cond.instanceMethod ({ cls := "ExemptDeskModel", name := "traderLine", desc := "()Z" } : Jvm.MethodName)) ∈ lw_all := lw_g (lw_at lw_m11 18 rfl) rfl
theorem q2541 : (Jvm.Cond.code ({ cls := "ExemptDeskModel", name := "traderLine", desc := "()Z" } : Jvm.MethodName) prog_17_method_18_code (3 : Nat) (Option.some Jvm.ClassFile.FieldType.boolean)) ∈ lw_all := lw_g (lw_at lw_m11 19 rfl) rfl
theorem q2542 : (Jvm.Cond.methodLink "ExemptDeskModel" (134 : Nat) ({ cls := "ExemptDeskModel", name := "nameAt", desc := "(III)I" } : Jvm.MethodName)) ∈ lw_all := lw_g (lw_at lw_m11 20 rfl) rfl
theorem q2543 : (Jvm.Cond.privateMethod ({ cls := "ExemptDeskModel", name := "nameAt", desc := "(III)I" } : Jvm.MethodName)) ∈ lw_tbl := lw_at lw_m11 21 rfl
theorem q2544 : (Jvm.Cond.instanceMethod ({ cls := "ExemptDeskModel", name := "nameAt", desc := "(III)I" } : Jvm.MethodName)) ∈ lw_all := lw_g (lw_at lw_m11 22 rfl) rfl
theorem q2545 : (Jvm.Cond.code ({ cls := "ExemptDeskModel", name := "nameAt", desc := "(III)I" } : Jvm.MethodName) prog_17_method_15_code (5 : Nat) (Option.some Jvm.ClassFile.FieldType.int)) ∈ lw_all := lw_g (lw_at lw_m11 23 rfl) rfl
theorem q2546 : (Jvm.Cond.methodLink "ExemptDeskModel" (138 : Nat) ({ cls := "ExemptDeskModel", name := "number", desc := "(II)Z" } : Jvm.MethodName)) ∈ lw_all := lw_g (lw_at lw_m11 24 rfl) rfl
theorem q2547 : (Jvm.Cond.privateMethod ({ cls := "ExemptDeskModel", name := "number", desc := "(II)Z" } : Jvm.MethodName)) ∈ lw_tbl := lw_at lw_m11 25 rfl
theorem q2548 : (Jvm.Cond.instanceMethod ({ cls := "ExemptDeskModel", name := "number", desc := "(II)Z" } : Jvm.MethodName)) ∈ lw_all := lw_g (lw_at lw_m11 26 rfl) rfl
theorem q2549 : (Jvm.Cond.code ({ cls := "ExemptDeskModel", name := "number", desc := "(II)Z" } : Jvm.MethodName) prog_17_method_16_code (3 : Nat) (Option.some Jvm.ClassFile.FieldType.boolean)) ∈ lw_all := lw_g (lw_at lw_m11 27 rfl) rfl
theorem q2550 : (Jvm.Cond.methodLink "ExemptDeskModel" (124 : Nat) ({ cls := "ExemptDeskModel", name := "isIn", desc := "(III)Z" } : Jvm.MethodName)) ∈ lw_all := lw_g (lw_at lw_m11 28 rfl) rfl
theorem q2551 : (Jvm.Cond.static ({ cls := "ExemptDeskModel", name := "isIn", desc := "(III)Z" } : Jvm.MethodName)) ∈ lw_all := lw_g (lw_at lw_m11 29 rfl) rfl
theorem q2552 : (Jvm.Cond.code ({ cls := "ExemptDeskModel", name := "isIn", desc := "(III)Z" } : Jvm.MethodName) prog_17_method_4_code (3 : Nat) (Option.some Jvm.ClassFile.FieldType.boolean)) ∈ lw_all := lw_g (lw_at lw_m11 30 rfl) rfl
theorem q2553 : (Jvm.Cond.methodLink "ExemptDeskModel" (153 : Nat) ({ cls := "ExemptDeskModel", name := "headLine", desc := "()Z" } : Jvm.MethodName)) ∈ lw_all := lw_g (lw_at lw_m11 31 rfl) rfl
theorem q2554 : (Jvm.Cond.privateMethod ({ cls := "ExemptDeskModel", name := "headLine", desc := "()Z" } : Jvm.MethodName)) ∈ lw_tbl := lw_at lw_m11 32 rfl
theorem q2555 : (Jvm.Cond.instanceMethod ({ cls := "ExemptDeskModel", name := "headLine", desc := "()Z" } : Jvm.MethodName)) ∈ lw_all := lw_g (lw_at lw_m11 33 rfl) rfl
theorem q2556 : (Jvm.Cond.code ({ cls := "ExemptDeskModel", name := "headLine", desc := "()Z" } : Jvm.MethodName) prog_17_method_19_code (3 : Nat) (Option.some Jvm.ClassFile.FieldType.boolean)) ∈ lw_all := lw_g (lw_at lw_m11 34 rfl) rfl
theorem q2557 : (Jvm.Cond.methodLink "ExemptDeskModel" (142 : Nat) ({ cls := "ExemptDeskModel", name := "traderRead", desc := "()Z" } : Jvm.MethodName)) ∈ lw_all := lw_g (lw_at lw_m11 35 rfl) rfl
theorem q2558 : (Jvm.Cond.privateMethod ({ cls := "ExemptDeskModel", name := "traderRead", desc := "()Z" } : Jvm.MethodName)) ∈ lw_tbl := lw_at lw_m11 36 rfl
theorem q2559 : (Jvm.Cond.instanceMethod ({ cls := "ExemptDeskModel", name := "traderRead", desc := "()Z" } : Jvm.MethodName)) ∈ lw_all := lw_g (lw_at lw_m11 37 rfl) rfl
theorem q2560 : (Jvm.Cond.code ({ cls := "ExemptDeskModel", name := "traderRead", desc := "()Z" } : Jvm.MethodName) prog_17_method_17_code (1 : Nat) (Option.some Jvm.ClassFile.FieldType.boolean)) ∈ lw_all := lw_g (lw_at lw_m11 38 rfl) rfl
theorem q2561 : (Jvm.Cond.methodLink "ExemptDeskModel" (156 : Nat) ({ cls := "ExemptDeskModel", name := "startLine", desc := "()Z" } : Jvm.MethodName)) ∈ lw_all := lw_g (lw_at lw_m11 39 rfl) rfl
theorem q2562 : (Jvm.Cond.privateMethod ({ cls := "ExemptDeskModel", name := "startLine", desc := "()Z" } : Jvm.MethodName)) ∈ lw_tbl := lw_at lw_m11 40 rfl
theorem q2563 : (Jvm.Cond.instanceMethod ({ cls := "ExemptDeskModel", name := "startLine", desc := "()Z" } : Jvm.MethodName)) ∈ lw_all := lw_g (lw_at lw_m11 41 rfl) rfl
theorem q2564 : (Jvm.Cond.code ({ cls := "ExemptDeskModel", name := "startLine", desc := "()Z" } : Jvm.MethodName) prog_17_method_20_code (2 : Nat) (Option.some Jvm.ClassFile.FieldType.boolean)) ∈ lw_all := lw_g (lw_at lw_m11 42 rfl) rfl
theorem q2565 : (Jvm.Cond.methodLink "ExemptDeskModel" (159 : Nat) ({ cls := "ExemptDeskModel", name := "saleLine", desc := "()Z" } : Jvm.MethodName)) ∈ lw_all := lw_g (lw_at lw_m11 43 rfl) rfl
theorem q2566 : (Jvm.Cond.privateMethod ({ cls := "ExemptDeskModel", name := "saleLine", desc := "()Z" } : Jvm.MethodName)) ∈ lw_tbl := lw_at lw_m11 44 rfl
theorem q2567 : (Jvm.Cond.instanceMethod ({ cls := "ExemptDeskModel", name := "saleLine", desc := "()Z" } : Jvm.MethodName)) ∈ lw_all := lw_g (lw_at lw_m11 45 rfl) rfl
theorem q2568 : (Jvm.Cond.code ({ cls := "ExemptDeskModel", name := "saleLine", desc := "()Z" } : Jvm.MethodName) prog_17_method_22_code (1 : Nat) (Option.some Jvm.ClassFile.FieldType.boolean)) ∈ lw_all := lw_g (lw_at lw_m11 46 rfl) rfl
theorem q2569 : (Jvm.Cond.methodLink "ExemptDeskModel" (146 : Nat) ({ cls := "ExemptDeskModel", name := "rowLine", desc := "([IIIIII)Z" } : Jvm.MethodName)) ∈ lw_all := lw_g (lw_at lw_m11 47 rfl) rfl
theorem q2570 : (Jvm.Cond.privateMethod ({ cls := "ExemptDeskModel", name := "rowLine", desc := "([IIIIII)Z" } : Jvm.MethodName)) ∈ lw_tbl := lw_at lw_m11 48 rfl
theorem q2571 : (Jvm.Cond.instanceMethod ({ cls := "ExemptDeskModel", name := "rowLine", desc := "([IIIIII)Z" } : Jvm.MethodName)) ∈ lw_all := lw_g (lw_at lw_m11 49 rfl) rfl
theorem q2572 : (Jvm.Cond.code ({ cls := "ExemptDeskModel", name := "rowLine", desc := "([IIIIII)Z" } : Jvm.MethodName) prog_17_method_21_code (7 : Nat) (Option.some Jvm.ClassFile.FieldType.boolean)) ∈ lw_all := lw_g (lw_at lw_m11 50 rfl) rfl
theorem q2573 : (Jvm.Cond.methodLink "ExemptDeskModel" (162 : Nat) ({ cls := "ExemptDeskModel", name := "buyLine", desc := "()Z" } : Jvm.MethodName)) ∈ lw_all := lw_g (lw_at lw_m11 51 rfl) rfl
theorem q2574 : (Jvm.Cond.privateMethod ({ cls := "ExemptDeskModel", name := "buyLine", desc := "()Z" } : Jvm.MethodName)) ∈ lw_tbl := lw_at lw_m11 52 rfl
theorem q2575 : (Jvm.Cond.instanceMethod ({ cls := "ExemptDeskModel", name := "buyLine", desc := "()Z" } : Jvm.MethodName)) ∈ lw_all := lw_g (lw_at lw_m11 53 rfl) rfl
theorem q2576 : (Jvm.Cond.code ({ cls := "ExemptDeskModel", name := "buyLine", desc := "()Z" } : Jvm.MethodName) prog_17_method_23_code (1 : Nat) (Option.some Jvm.ClassFile.FieldType.boolean)) ∈ lw_all := lw_g (lw_at lw_m11 54 rfl) rfl
theorem q2577 : (Jvm.Cond.methodLink "ExemptDeskModel" (165 : Nat) ({ cls := "ExemptDeskModel", name := "assetLine", desc := "()Z" } : Jvm.MethodName)) ∈ lw_all := lw_g (lw_at lw_m11 55 rfl) rfl
theorem q2578 : (Jvm.Cond.privateMethod ({ cls := "ExemptDeskModel", name := "assetLine", desc := "()Z" } : Jvm.MethodName)) ∈ lw_tbl := lw_at lw_m11 56 rfl
theorem q2579 : (Jvm.Cond.instanceMethod ({ cls := "ExemptDeskModel", name := "assetLine", desc := "()Z" } : Jvm.MethodName)) ∈ lw_all := lw_g (lw_at lw_m11 57 rfl) rfl
theorem q2580 : (Jvm.Cond.code ({ cls := "ExemptDeskModel", name := "assetLine", desc := "()Z" } : Jvm.MethodName) prog_17_method_24_code (1 : Nat) (Option.some Jvm.ClassFile.FieldType.boolean)) ∈ lw_all := lw_g (lw_at lw_m11 58 rfl) rfl
theorem q2581 : (Jvm.Cond.methodLink "ExemptDeskModel" (168 : Nat) ({ cls := "ExemptDeskModel", name := "wordLine", desc := "()Z" } : Jvm.MethodName)) ∈ lw_all := lw_g (lw_at lw_m11 59 rfl) rfl
theorem q2582 : (Jvm.Cond.privateMethod ({ cls := "ExemptDeskModel", name := "wordLine", desc := "()Z" } : Jvm.MethodName)) ∈ lw_tbl := lw_at lw_m11 60 rfl
theorem q2583 : (Jvm.Cond.instanceMethod ({ cls := "ExemptDeskModel", name := "wordLine", desc := "()Z" } : Jvm.MethodName)) ∈ lw_all := lw_g (lw_at lw_m11 61 rfl) rfl
theorem q2584 : (Jvm.Cond.code ({ cls := "ExemptDeskModel", name := "wordLine", desc := "()Z" } : Jvm.MethodName) prog_17_method_25_code (2 : Nat) (Option.some Jvm.ClassFile.FieldType.boolean)) ∈ lw_all := lw_g (lw_at lw_m11 62 rfl) rfl
theorem q2586 : (Jvm.Cond.instanceMethod ({ cls := "ExemptDeskModel", name := "fault", desc := "(I)I" } : Jvm.MethodName)) ∈ lw_all := lw_g (lw_at lw_m11 64 rfl) rfl
theorem q2587 : (Jvm.Cond.selects "ExemptDeskModel" ({ cls := "ExemptDeskModel", name := "fault", desc := "(I)I" } : Jvm.MethodName) ({ cls := "ExemptDeskModel", name := "fault", desc := "(I)I" } : Jvm.MethodName)) ∈ lw_all := lw_g (lw_at lw_m11 65 rfl) rfl
theorem q2588 : (Jvm.Cond.code ({ cls := "ExemptDeskModel", name := "fault", desc := "(I)I" } : Jvm.MethodName) prog_17_method_28_code (2 : Nat) (Option.some Jvm.ClassFile.FieldType.int)) ∈ lw_all := lw_g (lw_at lw_m11 66 rfl) rfl
theorem q2590 : (Jvm.Cond.instanceMethod ({ cls := "ExemptDeskModel", name := "named", desc := "(I)I" } : Jvm.MethodName)) ∈ lw_all := lw_g (lw_at lw_m11 68 rfl) rfl
theorem q2591 : (Jvm.Cond.selects "ExemptDeskModel" ({ cls := "ExemptDeskModel", name := "named", desc := "(I)I" } : Jvm.MethodName) ({ cls := "ExemptDeskModel", name := "named", desc := "(I)I" } : Jvm.MethodName)) ∈ lw_all := lw_g (lw_at lw_m11 69 rfl) rfl
theorem q2592 : (Jvm.Cond.code ({ cls := "ExemptDeskModel", name := "named", desc := "(I)I" } : Jvm.MethodName) prog_17_method_29_code (2 : Nat) (Option.some Jvm.ClassFile.FieldType.int)) ∈ lw_all := lw_g (lw_at lw_m11 70 rfl) rfl
theorem q2594 : (Jvm.Cond.instanceMethod ({ cls := "ExemptDeskModel", name := "undo", desc := "()I" } : Jvm.MethodName)) ∈ lw_all := lw_g (lw_at lw_m11 72 rfl) rfl
theorem q2595 : (Jvm.Cond.selects "ExemptDeskModel" ({ cls := "ExemptDeskModel", name := "undo", desc := "()I" } : Jvm.MethodName) ({ cls := "ExemptDeskModel", name := "undo", desc := "()I" } : Jvm.MethodName)) ∈ lw_all := lw_g (lw_at lw_m11 73 rfl) rfl
theorem q2596 : (Jvm.Cond.code ({ cls := "ExemptDeskModel", name := "undo", desc := "()I" } : Jvm.MethodName) prog_17_method_38_code (1 : Nat) (Option.some Jvm.ClassFile.FieldType.int)) ∈ lw_all := lw_g (lw_at lw_m11 74 rfl) rfl
theorem q2597 : (Jvm.Cond.methodLink "ExemptDeskModel" (178 : Nat) ({ cls := "ExemptDeskModel", name := "copyBank", desc := "(II)V" } : Jvm.MethodName)) ∈ lw_all := lw_g (lw_at lw_m11 75 rfl) rfl
theorem q2598 : (Jvm.Cond.privateMethod ({ cls := "ExemptDeskModel", name := "copyBank", desc := "(II)V" } : Jvm.MethodName)) ∈ lw_tbl := lw_at lw_m11 76 rfl
theorem q2599 : (Jvm.Cond.instanceMethod ({ cls := "ExemptDeskModel", name := "copyBank", desc := "(II)V" } : Jvm.MethodName)) ∈ lw_all := lw_g (lw_at lw_m11 77 rfl) rfl
theorem q2600 : (Jvm.Cond.code ({ cls := "ExemptDeskModel", name := "copyBank", desc := "(II)V" } : Jvm.MethodName) prog_17_method_36_code (4 : Nat) (Option.none : Option Jvm.ClassFile.FieldType)) ∈ lw_all := lw_g (lw_at lw_m11 78 rfl) rfl
theorem q2602 : (Jvm.Cond.instanceMethod ({ cls := "ExemptDeskModel", name := "keep", desc := "()I" } : Jvm.MethodName)) ∈ lw_all := lw_g (lw_at lw_m11 80 rfl) rfl
theorem q2603 : (Jvm.Cond.selects "ExemptDeskModel" ({ cls := "ExemptDeskModel", name := "keep", desc := "()I" } : Jvm.MethodName) ({ cls := "ExemptDeskModel", name := "keep", desc := "()I" } : Jvm.MethodName)) ∈ lw_all := lw_g (lw_at lw_m11 81 rfl) rfl
theorem q2604 : (Jvm.Cond.code ({ cls := "ExemptDeskModel", name := "keep", desc := "()I" } : Jvm.MethodName) prog_17_method_39_code (1 : Nat) (Option.some Jvm.ClassFile.FieldType.int)) ∈ lw_all := lw_g (lw_at lw_m11 82 rfl) rfl
theorem q2606 : (Jvm.Cond.instanceMethod ({ cls := "ExemptDeskModel", name := "back", desc := "()I" } : Jvm.MethodName)) ∈ lw_all := lw_g (lw_at lw_m11 84 rfl) rfl
theorem q2607 : (Jvm.Cond.selects "ExemptDeskModel" ({ cls := "ExemptDeskModel", name := "back", desc := "()I" } : Jvm.MethodName) ({ cls := "ExemptDeskModel", name := "back", desc := "()I" } : Jvm.MethodName)) ∈ lw_all := lw_g (lw_at lw_m11 85 rfl) rfl
theorem q2608 : (Jvm.Cond.code ({ cls := "ExemptDeskModel", name := "back", desc := "()I" } : Jvm.MethodName) prog_17_method_40_code (1 : Nat) (Option.some Jvm.ClassFile.FieldType.int)) ∈ lw_all := lw_g (lw_at lw_m11 86 rfl) rfl
theorem q2610 : (Jvm.Cond.instanceMethod ({ cls := "ExemptDeskModel", name := "sale", desc := "(III)I" } : Jvm.MethodName)) ∈ lw_all := lw_g (lw_at lw_m11 88 rfl) rfl
theorem q2611 : (Jvm.Cond.selects "ExemptDeskModel" ({ cls := "ExemptDeskModel", name := "sale", desc := "(III)I" } : Jvm.MethodName) ({ cls := "ExemptDeskModel", name := "sale", desc := "(III)I" } : Jvm.MethodName)) ∈ lw_all := lw_g (lw_at lw_m11 89 rfl) rfl
theorem q2612 : (Jvm.Cond.code ({ cls := "ExemptDeskModel", name := "sale", desc := "(III)I" } : Jvm.MethodName) prog_17_method_72_code (4 : Nat) (Option.some Jvm.ClassFile.FieldType.int)) ∈ lw_all := lw_g (lw_at lw_m11 90 rfl) rfl
theorem q2613 : (Jvm.Cond.methodLink "ExemptDeskModel" (296 : Nat) ({ cls := "ExemptDeskModel", name := "isTrader", desc := "(I)Z" } : Jvm.MethodName)) ∈ lw_all := lw_g (lw_at lw_m11 91 rfl) rfl
theorem q2614 : (Jvm.Cond.privateMethod ({ cls := "ExemptDeskModel", name := "isTrader", desc := "(I)Z" } : Jvm.MethodName)) ∈ lw_tbl := lw_at lw_m11 92 rfl
theorem q2615 : (Jvm.Cond.instanceMethod ({ cls := "ExemptDeskModel", name := "isTrader", desc := "(I)Z" } : Jvm.MethodName)) ∈ lw_all := lw_g (lw_at lw_m11 93 rfl) rfl
theorem q2616 : (Jvm.Cond.code ({ cls := "ExemptDeskModel", name := "isTrader", desc := "(I)Z" } : Jvm.MethodName) prog_17_method_30_code (2 : Nat) (Option.some Jvm.ClassFile.FieldType.boolean)) ∈ lw_all := lw_g (lw_at lw_m11 94 rfl) rfl
theorem q2617 : (Jvm.Cond.methodLink "ExemptDeskModel" (299 : Nat) ({ cls := "ExemptDeskModel", name := "canUndo", desc := "()V" } : Jvm.MethodName)) ∈ lw_all := lw_g (lw_at lw_m11 95 rfl) rfl
theorem q2618 : (Jvm.Cond.privateMethod ({ cls := "ExemptDeskModel", name := "canUndo", desc := "()V" } : Jvm.MethodName)) ∈ lw_tbl := lw_at lw_m11 96 rfl
theorem q2619 : (Jvm.Cond.instanceMethod ({ cls := "ExemptDeskModel", name := "canUndo", desc := "()V" } : Jvm.MethodName)) ∈ lw_all := lw_g (lw_at lw_m11 97 rfl) rfl
theorem q2620 : (Jvm.Cond.code ({ cls := "ExemptDeskModel", name := "canUndo", desc := "()V" } : Jvm.MethodName) prog_17_method_37_code (2 : Nat) (Option.none : Option Jvm.ClassFile.FieldType)) ∈ lw_all := lw_g (lw_at lw_m11 98 rfl) rfl
theorem q2622 : (Jvm.Cond.instanceMethod ({ cls := "ExemptDeskModel", name := "buy", desc := "(III)I" } : Jvm.MethodName)) ∈ lw_all := lw_g (lw_at lw_m11 100 rfl) rfl
theorem q2623 : (Jvm.Cond.selects "ExemptDeskModel" ({ cls := "ExemptDeskModel", name := "buy", desc := "(III)I" } : Jvm.MethodName) ({ cls := "ExemptDeskModel", name := "buy", desc := "(III)I" } : Jvm.MethodName)) ∈ lw_all := lw_g (lw_at lw_m11 101 rfl) rfl
theorem q2624 : (Jvm.Cond.code ({ cls := "ExemptDeskModel", name := "buy", desc := "(III)I" } : Jvm.MethodName) prog_17_method_73_code (4 : Nat) (Option.some Jvm.ClassFile.FieldType.int)) ∈ lw_all := lw_g (lw_at lw_m11 102 rfl) rfl
theorem q2626 : (Jvm.Cond.instanceMethod ({ cls := "ExemptDeskModel", name := "late", desc := "(IIII)I" } : Jvm.MethodName)) ∈ lw_all := lw_g (lw_at lw_m11 104 rfl) rfl
theorem q2627 : (Jvm.Cond.selects "ExemptDeskModel" ({ cls := "ExemptDeskModel", name := "late", desc := "(IIII)I" } : Jvm.MethodName) ({ cls := "ExemptDeskModel", name := "late", desc := "(IIII)I" } : Jvm.MethodName)) ∈ lw_all := lw_g (lw_at lw_m11 105 rfl) rfl
theorem q2628 : (Jvm.Cond.code ({ cls := "ExemptDeskModel", name := "late", desc := "(IIII)I" } : Jvm.MethodName) prog_17_method_74_code (5 : Nat) (Option.some Jvm.ClassFile.FieldType.int)) ∈ lw_all := lw_g (lw_at lw_m11 106 rfl) rfl
theorem q2629 : (Jvm.Cond.methodLink "ExemptDeskModel" (233 : Nat) ({ cls := "ExemptDeskModel", name := "year", desc := "()I" } : Jvm.MethodName)) ∈ lw_all := lw_g (lw_at lw_m11 107 rfl) rfl
theorem q2630 : (Jvm.Cond.privateMethod ({ cls := "ExemptDeskModel", name := "year", desc := "()I" } : Jvm.MethodName)) ∈ lw_tbl := lw_at lw_m11 108 rfl
theorem q2631 : (Jvm.Cond.instanceMethod ({ cls := "ExemptDeskModel", name := "year", desc := "()I" } : Jvm.MethodName)) ∈ lw_all := lw_g (lw_at lw_m11 109 rfl) rfl
theorem q2632 : (Jvm.Cond.code ({ cls := "ExemptDeskModel", name := "year", desc := "()I" } : Jvm.MethodName) prog_17_method_41_code (1 : Nat) (Option.some Jvm.ClassFile.FieldType.int)) ∈ lw_all := lw_g (lw_at lw_m11 110 rfl) rfl
theorem q2634 : (Jvm.Cond.instanceMethod ({ cls := "ExemptDeskModel", name := "heads", desc := "(III)Z" } : Jvm.MethodName)) ∈ lw_all := lw_g (lw_at lw_m11 112 rfl) rfl
theorem q2635 : (Jvm.Cond.selects "ExemptDeskModel" ({ cls := "ExemptDeskModel", name := "heads", desc := "(III)Z" } : Jvm.MethodName) ({ cls := "ExemptDeskModel", name := "heads", desc := "(III)Z" } : Jvm.MethodName)) ∈ lw_all := lw_g (lw_at lw_m11 113 rfl) rfl
theorem q2636 : (Jvm.Cond.code ({ cls := "ExemptDeskModel", name := "heads", desc := "(III)Z" } : Jvm.MethodName) prog_17_method_75_code (4 : Nat) (Option.some Jvm.ClassFile.FieldType.boolean)) ∈ lw_all := lw_g (lw_at lw_m11 114 rfl) rfl
theorem q2638 : (Jvm.Cond.instanceMethod ({ cls := "ExemptDeskModel", name := "acquire", desc := "(IIII)I" } : Jvm.MethodName)) ∈ lw_all := lw_g (lw_at lw_m11 116 rfl) rfl
theorem q2639 : (Jvm.Cond.selects "ExemptDeskModel" ({ cls := "ExemptDeskModel", name := "acquire", desc := "(IIII)I" } : Jvm.MethodName) ({ cls := "ExemptDeskModel", name := "acquire", desc := "(IIII)I" } : Jvm.MethodName)) ∈ lw_all := lw_g (lw_at lw_m11 117 rfl) rfl
theorem q2640 : (Jvm.Cond.code ({ cls := "ExemptDeskModel", name := "acquire", desc := "(IIII)I" } : Jvm.MethodName) prog_17_method_76_code (5 : Nat) (Option.some Jvm.ClassFile.FieldType.int)) ∈ lw_all := lw_g (lw_at lw_m11 118 rfl) rfl
theorem q2642 : (Jvm.Cond.instanceMethod ({ cls := "ExemptDeskModel", name := "use", desc := "(II)Z" } : Jvm.MethodName)) ∈ lw_all := lw_g (lw_at lw_m11 120 rfl) rfl
theorem q2643 : (Jvm.Cond.selects "ExemptDeskModel" ({ cls := "ExemptDeskModel", name := "use", desc := "(II)Z" } : Jvm.MethodName) ({ cls := "ExemptDeskModel", name := "use", desc := "(II)Z" } : Jvm.MethodName)) ∈ lw_all := lw_g (lw_at lw_m11 121 rfl) rfl
theorem q2644 : (Jvm.Cond.code ({ cls := "ExemptDeskModel", name := "use", desc := "(II)Z" } : Jvm.MethodName) prog_17_method_79_code (3 : Nat) (Option.some Jvm.ClassFile.FieldType.boolean)) ∈ lw_all := lw_g (lw_at lw_m11 122 rfl) rfl
theorem q2645 : (Jvm.Cond.methodLink "ExemptDeskModel" (302 : Nat) ({ cls := "ExemptDeskModel", name := "isAsset", desc := "(I)Z" } : Jvm.MethodName)) ∈ lw_all := lw_g (lw_at lw_m11 123 rfl) rfl
theorem q2646 : (Jvm.Cond.privateMethod ({ cls := "ExemptDeskModel", name := "isAsset", desc := "(I)Z" } : Jvm.MethodName)) ∈ lw_tbl := lw_at lw_m11 124 rfl
theorem q2647 : (Jvm.Cond.instanceMethod ({ cls := "ExemptDeskModel", name := "isAsset", desc := "(I)Z" } : Jvm.MethodName)) ∈ lw_all := lw_g (lw_at lw_m11 125 rfl) rfl
theorem q2648 : (Jvm.Cond.code ({ cls := "ExemptDeskModel", name := "isAsset", desc := "(I)Z" } : Jvm.MethodName) prog_17_method_77_code (2 : Nat) (Option.some Jvm.ClassFile.FieldType.boolean)) ∈ lw_all := lw_g (lw_at lw_m11 126 rfl) rfl
theorem q2649 : (Jvm.Cond.methodLink "ExemptDeskModel" (305 : Nat) ({ cls := "ExemptDeskModel", name := "isGone", desc := "(I)Z" } : Jvm.MethodName)) ∈ lw_all := lw_g (lw_at lw_m11 127 rfl) rfl
theorem q2650 : (Jvm.Cond.privateMethod ({ cls := "ExemptDeskModel", name := "isGone", desc := "(I)Z" } : Jvm.MethodName)) ∈ lw_tbl := lw_at lw_m11 128 rfl
theorem q2651 : (Jvm.Cond.instanceMethod ({ cls := "ExemptDeskModel", name := "isGone", desc := "(I)Z" } : Jvm.MethodName)) ∈ lw_all := lw_g (lw_at lw_m11 129 rfl) rfl
theorem q2652 : (Jvm.Cond.code ({ cls := "ExemptDeskModel", name := "isGone", desc := "(I)Z" } : Jvm.MethodName) prog_17_method_78_code (2 : Nat) (Option.some Jvm.ClassFile.FieldType.boolean)) ∈ lw_all := lw_g (lw_at lw_m11 130 rfl) rfl
theorem q2653 : (Jvm.Cond.methodLink "ExemptDeskModel" (256 : Nat) ({ cls := "ExemptDeskModel", name := "at", desc := "(II)I" } : Jvm.MethodName)) ∈ lw_all := lw_g (lw_at lw_m11 131 rfl) rfl
theorem q2654 : (Jvm.Cond.privateMethod ({ cls := "ExemptDeskModel", name := "at", desc := "(II)I" } : Jvm.MethodName)) ∈ lw_tbl := lw_at lw_m11 132 rfl
theorem q2655 : (Jvm.Cond.instanceMethod ({ cls := "ExemptDeskModel", name := "at", desc := "(II)I" } : Jvm.MethodName)) ∈ lw_all := lw_g (lw_at lw_m11 133 rfl) rfl
theorem q2656 : (Jvm.Cond.code ({ cls := "ExemptDeskModel", name := "at", desc := "(II)I" } : Jvm.MethodName) prog_17_method_34_code (3 : Nat) (Option.some Jvm.ClassFile.FieldType.int)) ∈ lw_all := lw_g (lw_at lw_m11 134 rfl) rfl
theorem q2657 : (Jvm.Cond.methodLink "ExemptDeskModel" (270 : Nat) ({ cls := "ExemptDeskModel", name := "intervalOf", desc := "(II)I" } : Jvm.MethodName)) ∈ lw_all := lw_g (lw_at lw_m11 135 rfl) rfl
theorem q2658 : (Jvm.Cond.privateMethod ({ cls := "ExemptDeskModel", name := "intervalOf", desc := "(II)I" } : Jvm.MethodName)) ∈ lw_tbl := lw_at lw_m11 136 rfl
theorem q2659 : (Jvm.Cond.instanceMethod ({ cls := "ExemptDeskModel", name := "intervalOf", desc := "(II)I" } : Jvm.MethodName)) ∈ lw_all := lw_g (lw_at lw_m11 137 rfl) rfl
theorem q2660 : (Jvm.Cond.code ({ cls := "ExemptDeskModel", name := "intervalOf", desc := "(II)I" } : Jvm.MethodName) prog_17_method_64_code (3 : Nat) (Option.some Jvm.ClassFile.FieldType.int)) ∈ lw_all := lw_g (lw_at lw_m11 138 rfl) rfl
theorem q2662 : (Jvm.Cond.instanceMethod ({ cls := "ExemptDeskModel", name := "sell", desc := "(III)I" } : Jvm.MethodName)) ∈ lw_all := lw_g (lw_at lw_m11 140 rfl) rfl
theorem q2663 : (Jvm.Cond.selects "ExemptDeskModel" ({ cls := "ExemptDeskModel", name := "sell", desc := "(III)I" } : Jvm.MethodName) ({ cls := "ExemptDeskModel", name := "sell", desc := "(III)I" } : Jvm.MethodName)) ∈ lw_all := lw_g (lw_at lw_m11 141 rfl) rfl
theorem q2664 : (Jvm.Cond.code ({ cls := "ExemptDeskModel", name := "sell", desc := "(III)I" } : Jvm.MethodName) prog_17_method_81_code (4 : Nat) (Option.some Jvm.ClassFile.FieldType.int)) ∈ lw_all := lw_g (lw_at lw_m11 142 rfl) rfl
theorem q2665 : (Jvm.Cond.methodLink "ExemptDeskModel" (308 : Nat) ({ cls := "ExemptDeskModel", name := "behindOf", desc := "(I)I" } : Jvm.MethodName)) ∈ lw_all := lw_g (lw_at lw_m11 143 rfl) rfl
theorem q2666 : (Jvm.Cond.privateMethod ({ cls := "ExemptDeskModel", name := "behindOf", desc := "(I)I" } : Jvm.MethodName)) ∈ lw_tbl := lw_at lw_m11 144 rfl
theorem q2667 : (Jvm.Cond.instanceMethod ({ cls := "ExemptDeskModel", name := "behindOf", desc := "(I)I" } : Jvm.MethodName)) ∈ lw_all := lw_g (lw_at lw_m11 145 rfl) rfl
theorem q2668 : (Jvm.Cond.code ({ cls := "ExemptDeskModel", name := "behindOf", desc := "(I)I" } : Jvm.MethodName) prog_17_method_80_code (2 : Nat) (Option.some Jvm.ClassFile.FieldType.int)) ∈ lw_all := lw_g (lw_at lw_m11 146 rfl) rfl
theorem q2670 : (Jvm.Cond.instanceMethod ({ cls := "ExemptDeskModel", name := "hand", desc := "(II)I" } : Jvm.MethodName)) ∈ lw_all := lw_g (lw_at lw_m11 148 rfl) rfl
theorem q2671 : (Jvm.Cond.selects "ExemptDeskModel" ({ cls := "ExemptDeskModel", name := "hand", desc := "(II)I" } : Jvm.MethodName) ({ cls := "ExemptDeskModel", name := "hand", desc := "(II)I" } : Jvm.MethodName)) ∈ lw_all := lw_g (lw_at lw_m11 149 rfl) rfl
theorem q2672 : (Jvm.Cond.code ({ cls := "ExemptDeskModel", name := "hand", desc := "(II)I" } : Jvm.MethodName) prog_17_method_82_code (4 : Nat) (Option.some Jvm.ClassFile.FieldType.int)) ∈ lw_all := lw_g (lw_at lw_m11 150 rfl) rfl
theorem q2674 : (Jvm.Cond.instanceMethod ({ cls := "ExemptDeskModel", name := "close", desc := "(I)I" } : Jvm.MethodName)) ∈ lw_all := lw_g (lw_at lw_m11 152 rfl) rfl
theorem q2675 : (Jvm.Cond.selects "ExemptDeskModel" ({ cls := "ExemptDeskModel", name := "close", desc := "(I)I" } : Jvm.MethodName) ({ cls := "ExemptDeskModel", name := "close", desc := "(I)I" } : Jvm.MethodName)) ∈ lw_all := lw_g (lw_at lw_m11 153 rfl) rfl
theorem q2676 : (Jvm.Cond.code ({ cls := "ExemptDeskModel", name := "close", desc := "(I)I" } : Jvm.MethodName) prog_17_method_83_code (4 : Nat) (Option.some Jvm.ClassFile.FieldType.int)) ∈ lw_all := lw_g (lw_at lw_m11 154 rfl) rfl
theorem q2677 : (Jvm.Cond.methodLink "ExemptDeskModel" (311 : Nat) ({ cls := "ExemptDeskModel", name := "closesQuarter", desc := "()V" } : Jvm.MethodName)) ∈ lw_all := lw_g (lw_at lw_m11 155 rfl) rfl
theorem q2678 : (Jvm.Cond.privateMethod ({ cls := "ExemptDeskModel", name := "closesQuarter", desc := "()V" } : Jvm.MethodName)) ∈ lw_tbl := lw_at lw_m11 156 rfl
theorem q2679 : (Jvm.Cond.instanceMethod ({ cls := "ExemptDeskModel", name := "closesQuarter", desc := "()V" } : Jvm.MethodName)) ∈ lw_all := lw_g (lw_at lw_m11 157 rfl) rfl
theorem q2680 : (Jvm.Cond.code ({ cls := "ExemptDeskModel", name := "closesQuarter", desc := "()V" } : Jvm.MethodName) prog_17_method_61_code (5 : Nat) (Option.none : Option Jvm.ClassFile.FieldType)) ∈ lw_all := lw_g (lw_at lw_m11 158 rfl) rfl
theorem q2681 : (Jvm.Cond.methodLink "ExemptDeskModel" (246 : Nat) ({ cls := "ExemptDeskModel", name := "provisionalBy", desc := "(III)I" } : Jvm.MethodName)) ∈ lw_all := lw_g (lw_at lw_m11 159 rfl) rfl
theorem q2682 : (Jvm.Cond.privateMethod ({ cls := "ExemptDeskModel", name := "provisionalBy", desc := "(III)I" } : Jvm.MethodName)) ∈ lw_tbl := lw_at lw_m11 160 rfl
theorem q2683 : (Jvm.Cond.instanceMethod ({ cls := "ExemptDeskModel", name := "provisionalBy", desc := "(III)I" } : Jvm.MethodName)) ∈ lw_all := lw_g (lw_at lw_m11 161 rfl) rfl
theorem q2684 : (Jvm.Cond.code ({ cls := "ExemptDeskModel", name := "provisionalBy", desc := "(III)I" } : Jvm.MethodName) prog_17_method_59_code (5 : Nat) (Option.some Jvm.ClassFile.FieldType.int)) ∈ lw_all := lw_g (lw_at lw_m11 162 rfl) rfl
theorem q2685 : (Jvm.Cond.methodLink "ExemptDeskModel" (240 : Nat) ({ cls := "ExemptDeskModel", name := "layQuarter", desc := "(II)V" } : Jvm.MethodName)) ∈ lw_all := lw_g (lw_at lw_m11 163 rfl) rfl
theorem q2686 : (Jvm.Cond.privateMethod ({ cls := "ExemptDeskModel", name := "layQuarter", desc := "(II)V" } : Jvm.MethodName)) ∈ lw_tbl := lw_at lw_m11 164 rfl
theorem q2687 : (Jvm.Cond.instanceMethod ({ cls := "ExemptDeskModel", name := "layQuarter", desc := "(II)V" } : Jvm.MethodName)) ∈ lw_all := lw_g (lw_at lw_m11 165 rfl) rfl
theorem q2688 : (Jvm.Cond.code ({ cls := "ExemptDeskModel", name := "layQuarter", desc := "(II)V" } : Jvm.MethodName) prog_17_method_51_code (3 : Nat) (Option.none : Option Jvm.ClassFile.FieldType)) ∈ lw_all := lw_g (lw_at lw_m11 166 rfl) rfl
theorem q2689 : (Jvm.Cond.methodLink "ExemptDeskModel" (212 : Nat) ({ cls := "ExemptDeskModel", name := "layNone", desc := "()V" } : Jvm.MethodName)) ∈ lw_all := lw_g (lw_at lw_m11 167 rfl) rfl
theorem q2690 : (Jvm.Cond.privateMethod ({ cls := "ExemptDeskModel", name := "layNone", desc := "()V" } : Jvm.MethodName)) ∈ lw_tbl := lw_at lw_m11 168 rfl
theorem q2691 : (Jvm.Cond.instanceMethod ({ cls := "ExemptDeskModel", name := "layNone", desc := "()V" } : Jvm.MethodName)) ∈ lw_all := lw_g (lw_at lw_m11 169 rfl) rfl
theorem q2692 : (Jvm.Cond.code ({ cls := "ExemptDeskModel", name := "layNone", desc := "()V" } : Jvm.MethodName) prog_17_method_48_code (2 : Nat) (Option.none : Option Jvm.ClassFile.FieldType)) ∈ lw_all := lw_g (lw_at lw_m11 170 rfl) rfl
theorem q2693 : (Jvm.Cond.methodLink "ExemptDeskModel" (215 : Nat) ({ cls := "ExemptDeskModel", name := "addQuarter", desc := "(II)V" } : Jvm.MethodName)) ∈ lw_all := lw_g (lw_at lw_m11 171 rfl) rfl
theorem q2694 : (Jvm.Cond.privateMethod ({ cls := "ExemptDeskModel", name := "addQuarter", desc := "(II)V" } : Jvm.MethodName)) ∈ lw_tbl := lw_at lw_m11 172 rfl
theorem q2695 : (Jvm.Cond.instanceMethod ({ cls := "ExemptDeskModel", name := "addQuarter", desc := "(II)V" } : Jvm.MethodName)) ∈ lw_all := lw_g (lw_at lw_m11 173 rfl) rfl
theorem q2696 : (Jvm.Cond.code ({ cls := "ExemptDeskModel", name := "addQuarter", desc := "(II)V" } : Jvm.MethodName) prog_17_method_49_code (4 : Nat) (Option.none : Option Jvm.ClassFile.FieldType)) ∈ lw_all := lw_g (lw_at lw_m11 174 rfl) rfl
theorem q2697 : (Jvm.Cond.methodLink "ExemptDeskModel" (218 : Nat) ({ cls := "ExemptDeskModel", name := "addHeads", desc := "(I)V" } : Jvm.MethodName)) ∈ lw_all := lw_g (lw_at lw_m11 175 rfl) rfl
theorem q2698 : (Jvm.Cond.privateMethod ({ cls := "ExemptDeskModel", name := "addHeads", desc := "(I)V" } : Jvm.MethodName)) ∈ lw_tbl := lw_at lw_m11 176 rfl
theorem q2699 : (Jvm.Cond.instanceMethod ({ cls := "ExemptDeskModel", name := "addHeads", desc := "(I)V" } : Jvm.MethodName)) ∈ lw_all := lw_g (lw_at lw_m11 177 rfl) rfl
theorem q2700 : (Jvm.Cond.code ({ cls := "ExemptDeskModel", name := "addHeads", desc := "(I)V" } : Jvm.MethodName) prog_17_method_50_code (2 : Nat) (Option.none : Option Jvm.ClassFile.FieldType)) ∈ lw_all := lw_g (lw_at lw_m11 178 rfl) rfl
theorem q2701 : (Jvm.Cond.methodLink "ExemptDeskModel" (237 : Nat) ({ cls := "ExemptDeskModel", name := "fraction", desc := "(I)I" } : Jvm.MethodName)) ∈ lw_all := lw_g (lw_at lw_m11 179 rfl) rfl
theorem q2702 : (Jvm.Cond.privateMethod ({ cls := "ExemptDeskModel", name := "fraction", desc := "(I)I" } : Jvm.MethodName)) ∈ lw_tbl := lw_at lw_m11 180 rfl
theorem q2703 : (Jvm.Cond.instanceMethod ({ cls := "ExemptDeskModel", name := "fraction", desc := "(I)I" } : Jvm.MethodName)) ∈ lw_all := lw_g (lw_at lw_m11 181 rfl) rfl
theorem q2704 : (Jvm.Cond.code ({ cls := "ExemptDeskModel", name := "fraction", desc := "(I)I" } : Jvm.MethodName) prog_17_method_54_code (2 : Nat) (Option.some Jvm.ClassFile.FieldType.int)) ∈ lw_all := lw_g (lw_at lw_m11 182 rfl) rfl
theorem q2705 : (Jvm.Cond.methodLink "ExemptDeskModel" (222 : Nat) ({ cls := "ExemptDeskModel", name := "fractionBy", desc := "(III)I" } : Jvm.MethodName)) ∈ lw_all := lw_g (lw_at lw_m11 183 rfl) rfl
theorem q2706 : (Jvm.Cond.privateMethod ({ cls := "ExemptDeskModel", name := "fractionBy", desc := "(III)I" } : Jvm.MethodName)) ∈ lw_tbl := lw_at lw_m11 184 rfl
theorem q2707 : (Jvm.Cond.instanceMethod ({ cls := "ExemptDeskModel", name := "fractionBy", desc := "(III)I" } : Jvm.MethodName)) ∈ lw_all := lw_g (lw_at lw_m11 185 rfl) rfl
theorem q2708 : (Jvm.Cond.code ({ cls := "ExemptDeskModel", name := "fractionBy", desc := "(III)I" } : Jvm.MethodName) prog_17_method_53_code (8 : Nat) (Option.some Jvm.ClassFile.FieldType.int)) ∈ lw_all := lw_g (lw_at lw_m11 186 rfl) rfl
theorem q2709 : (Jvm.Cond.methodLink "ExemptDeskModel" (201 : Nat) ({ cls := "ExemptDeskModel", name := "cutBy", desc := "(IJJ)J" } : Jvm.MethodName)) ∈ lw_all := lw_g (lw_at lw_m11 187 rfl) rfl
theorem q2710 : (Jvm.Cond.static ({ cls := "ExemptDeskModel", name := "cutBy", desc := "(IJJ)J" } : Jvm.MethodName)) ∈ lw_all := lw_g (lw_at lw_m11 188 rfl) rfl
theorem q2711 : (Jvm.Cond.code ({ cls := "ExemptDeskModel", name := "cutBy", desc := "(IJJ)J" } : Jvm.MethodName) prog_17_method_46_code (5 : Nat) (Option.some Jvm.ClassFile.FieldType.long)) ∈ lw_all := lw_g (lw_at lw_m11 189 rfl) rfl
theorem q2712 : (Jvm.Cond.methodLink "ExemptDeskModel" (195 : Nat) ({ cls := "ExemptDeskModel", name := "quotient", desc := "(JJ)J" } : Jvm.MethodName)) ∈ lw_all := lw_g (lw_at lw_m11 190 rfl) rfl
theorem q2713 : (Jvm.Cond.static ({ cls := "ExemptDeskModel", name := "quotient", desc := "(JJ)J" } : Jvm.MethodName)) ∈ lw_all := lw_g (lw_at lw_m11 191 rfl) rfl
theorem q2714 : (Jvm.Cond.code ({ cls := "ExemptDeskModel", name := "quotient", desc := "(JJ)J" } : Jvm.MethodName) prog_17_method_45_code (6 : Nat) (Option.some Jvm.ClassFile.FieldType.long)) ∈ lw_all := lw_g (lw_at lw_m11 192 rfl) rfl
theorem q2715 : (Jvm.Cond.constantLong "ExemptDeskModel" (199 : Nat) (2 : Int64)) ∈ lw_all := lw_g (lw_at lw_m11 193 rfl) rfl
theorem q2716 : (Jvm.Cond.methodLink "ExemptDeskModel" (243 : Nat) ({ cls := "ExemptDeskModel", name := "firstOf", desc := "(I)I" } : Jvm.MethodName)) ∈ lw_all := lw_g (lw_at lw_m11 194 rfl) rfl
theorem q2717 : (Jvm.Cond.privateMethod ({ cls := "ExemptDeskModel", name := "firstOf", desc := "(I)I" } : Jvm.MethodName)) ∈ lw_tbl := lw_at lw_m11 195 rfl
theorem q2718 : (Jvm.Cond.instanceMethod ({ cls := "ExemptDeskModel", name := "firstOf", desc := "(I)I" } : Jvm.MethodName)) ∈ lw_all := lw_g (lw_at lw_m11 196 rfl) rfl
theorem q2719 : (Jvm.Cond.code ({ cls := "ExemptDeskModel", name := "firstOf", desc := "(I)I" } : Jvm.MethodName) prog_17_method_58_code (2 : Nat) (Option.some Jvm.ClassFile.FieldType.int)) ∈ lw_all := lw_g (lw_at lw_m11 197 rfl) rfl
theorem q2720 : (Jvm.Cond.methodLink "ExemptDeskModel" (249 : Nat) ({ cls := "ExemptDeskModel", name := "back1", desc := "(II)I" } : Jvm.MethodName)) ∈ lw_all := lw_g (lw_at lw_m11 198 rfl) rfl
theorem q2721 : (Jvm.Cond.privateMethod ({ cls := "ExemptDeskModel", name := "back1", desc := "(II)I" } : Jvm.MethodName)) ∈ lw_tbl := lw_at lw_m11 199 rfl
theorem q2722 : (Jvm.Cond.instanceMethod ({ cls := "ExemptDeskModel", name := "back1", desc := "(II)I" } : Jvm.MethodName)) ∈ lw_all := lw_g (lw_at lw_m11 200 rfl) rfl
theorem q2723 : (Jvm.Cond.code ({ cls := "ExemptDeskModel", name := "back1", desc := "(II)I" } : Jvm.MethodName) prog_17_method_56_code (3 : Nat) (Option.some Jvm.ClassFile.FieldType.int)) ∈ lw_all := lw_g (lw_at lw_m11 201 rfl) rfl
theorem q2724 : (Jvm.Cond.methodLink "ExemptDeskModel" (227 : Nat) ({ cls := "ExemptDeskModel", name := "backBy", desc := "(IIII)I" } : Jvm.MethodName)) ∈ lw_all := lw_g (lw_at lw_m11 202 rfl) rfl
theorem q2725 : (Jvm.Cond.privateMethod ({ cls := "ExemptDeskModel", name := "backBy", desc := "(IIII)I" } : Jvm.MethodName)) ∈ lw_tbl := lw_at lw_m11 203 rfl
theorem q2726 : (Jvm.Cond.instanceMethod ({ cls := "ExemptDeskModel", name := "backBy", desc := "(IIII)I" } : Jvm.MethodName)) ∈ lw_all := lw_g (lw_at lw_m11 204 rfl) rfl
theorem q2727 : (Jvm.Cond.code ({ cls := "ExemptDeskModel", name := "backBy", desc := "(IIII)I" } : Jvm.MethodName) prog_17_method_55_code (11 : Nat) (Option.some Jvm.ClassFile.FieldType.int)) ∈ lw_all := lw_g (lw_at lw_m11 205 rfl) rfl
theorem q2728 : (Jvm.Cond.methodLink "ExemptDeskModel" (252 : Nat) ({ cls := "ExemptDeskModel", name := "books", desc := "(IIII)V" } : Jvm.MethodName)) ∈ lw_all := lw_g (lw_at lw_m11 206 rfl) rfl
theorem q2729 : (Jvm.Cond.privateMethod ({ cls := "ExemptDeskModel", name := "books", desc := "(IIII)V" } : Jvm.MethodName)) ∈ lw_tbl := lw_at lw_m11 207 rfl
theorem q2730 : (Jvm.Cond.instanceMethod ({ cls := "ExemptDeskModel", name := "books", desc := "(IIII)V" } : Jvm.MethodName)) ∈ lw_all := lw_g (lw_at lw_m11 208 rfl) rfl
theorem q2731 : (Jvm.Cond.code ({ cls := "ExemptDeskModel", name := "books", desc := "(IIII)V" } : Jvm.MethodName) prog_17_method_60_code (7 : Nat) (Option.none : Option Jvm.ClassFile.FieldType)) ∈ lw_all := lw_g (lw_at lw_m11 209 rfl) rfl
theorem q2732 : (Jvm.Cond.methodLink "ExemptDeskModel" (258 : Nat) ({ cls := "ExemptDeskModel", name := "closesYear", desc := "()V" } : Jvm.MethodName)) ∈ lw_all := lw_g (lw_at lw_m11 210 rfl) rfl
theorem q2733 : (Jvm.Cond.privateMethod ({ cls := "ExemptDeskModel", name := "closesYear", desc := "()V" } : Jvm.MethodName)) ∈ lw_tbl := lw_at lw_m11 211 rfl
theorem q2734 : (Jvm.Cond.instanceMethod ({ cls := "ExemptDeskModel", name := "closesYear", desc := "()V" } : Jvm.MethodName)) ∈ lw_all := lw_g (lw_at lw_m11 212 rfl) rfl
theorem q2735 : (Jvm.Cond.code ({ cls := "ExemptDeskModel", name := "closesYear", desc := "()V" } : Jvm.MethodName) prog_17_method_63_code (4 : Nat) (Option.none : Option Jvm.ClassFile.FieldType)) ∈ lw_all := lw_g (lw_at lw_m11 213 rfl) rfl
theorem q2736 : (Jvm.Cond.methodLink "ExemptDeskModel" (230 : Nat) ({ cls := "ExemptDeskModel", name := "layYear", desc := "(II)V" } : Jvm.MethodName)) ∈ lw_all := lw_g (lw_at lw_m11 214 rfl) rfl
theorem q2737 : (Jvm.Cond.privateMethod ({ cls := "ExemptDeskModel", name := "layYear", desc := "(II)V" } : Jvm.MethodName)) ∈ lw_tbl := lw_at lw_m11 215 rfl
theorem q2738 : (Jvm.Cond.instanceMethod ({ cls := "ExemptDeskModel", name := "layYear", desc := "(II)V" } : Jvm.MethodName)) ∈ lw_all := lw_g (lw_at lw_m11 216 rfl) rfl
theorem q2739 : (Jvm.Cond.code ({ cls := "ExemptDeskModel", name := "layYear", desc := "(II)V" } : Jvm.MethodName) prog_17_method_52_code (4 : Nat) (Option.none : Option Jvm.ClassFile.FieldType)) ∈ lw_all := lw_g (lw_at lw_m11 217 rfl) rfl
theorem q2740 : (Jvm.Cond.methodLink "ExemptDeskModel" (261 : Nat) ({ cls := "ExemptDeskModel", name := "bookedIn", desc := "(II)I" } : Jvm.MethodName)) ∈ lw_all := lw_g (lw_at lw_m11 218 rfl) rfl
theorem q2741 : (Jvm.Cond.privateMethod ({ cls := "ExemptDeskModel", name := "bookedIn", desc := "(II)I" } : Jvm.MethodName)) ∈ lw_tbl := lw_at lw_m11 219 rfl
theorem q2742 : (Jvm.Cond.instanceMethod ({ cls := "ExemptDeskModel", name := "bookedIn", desc := "(II)I" } : Jvm.MethodName)) ∈ lw_all := lw_g (lw_at lw_m11 220 rfl) rfl
theorem q2743 : (Jvm.Cond.code ({ cls := "ExemptDeskModel", name := "bookedIn", desc := "(II)I" } : Jvm.MethodName) prog_17_method_62_code (5 : Nat) (Option.some Jvm.ClassFile.FieldType.int)) ∈ lw_all := lw_g (lw_at lw_m11 221 rfl) rfl
theorem q2744 : (Jvm.Cond.methodLink "ExemptDeskModel" (264 : Nat) ({ cls := "ExemptDeskModel", name := "closesAsset", desc := "(II)V" } : Jvm.MethodName)) ∈ lw_all := lw_g (lw_at lw_m11 222 rfl) rfl
theorem q2745 : (Jvm.Cond.privateMethod ({ cls := "ExemptDeskModel", name := "closesAsset", desc := "(II)V" } : Jvm.MethodName)) ∈ lw_tbl := lw_at lw_m11 223 rfl
theorem q2746 : (Jvm.Cond.instanceMethod ({ cls := "ExemptDeskModel", name := "closesAsset", desc := "(II)V" } : Jvm.MethodName)) ∈ lw_all := lw_g (lw_at lw_m11 224 rfl) rfl
theorem q2747 : (Jvm.Cond.code ({ cls := "ExemptDeskModel", name := "closesAsset", desc := "(II)V" } : Jvm.MethodName) prog_17_method_68_code (10 : Nat) (Option.none : Option Jvm.ClassFile.FieldType)) ∈ lw_all := lw_g (lw_at lw_m11 225 rfl) rfl
theorem q2748 : (Jvm.Cond.methodLink "ExemptDeskModel" (273 : Nat) ({ cls := "ExemptDeskModel", name := "worthBy", desc := "(II)I" } : Jvm.MethodName)) ∈ lw_all := lw_g (lw_at lw_m11 226 rfl) rfl
theorem q2749 : (Jvm.Cond.privateMethod ({ cls := "ExemptDeskModel", name := "worthBy", desc := "(II)I" } : Jvm.MethodName)) ∈ lw_tbl := lw_at lw_m11 227 rfl
theorem q2750 : (Jvm.Cond.instanceMethod ({ cls := "ExemptDeskModel", name := "worthBy", desc := "(II)I" } : Jvm.MethodName)) ∈ lw_all := lw_g (lw_at lw_m11 228 rfl) rfl
theorem q2751 : (Jvm.Cond.code ({ cls := "ExemptDeskModel", name := "worthBy", desc := "(II)I" } : Jvm.MethodName) prog_17_method_70_code (9 : Nat) (Option.some Jvm.ClassFile.FieldType.int)) ∈ lw_all := lw_g (lw_at lw_m11 229 rfl) rfl
theorem q2752 : (Jvm.Cond.methodLink "ExemptDeskModel" (291 : Nat) ({ cls := "ExemptDeskModel", name := "annualOf", desc := "(II)I" } : Jvm.MethodName)) ∈ lw_all := lw_g (lw_at lw_m11 230 rfl) rfl
theorem q2753 : (Jvm.Cond.privateMethod ({ cls := "ExemptDeskModel", name := "annualOf", desc := "(II)I" } : Jvm.MethodName)) ∈ lw_tbl := lw_at lw_m11 231 rfl
theorem q2754 : (Jvm.Cond.instanceMethod ({ cls := "ExemptDeskModel", name := "annualOf", desc := "(II)I" } : Jvm.MethodName)) ∈ lw_all := lw_g (lw_at lw_m11 232 rfl) rfl
theorem q2755 : (Jvm.Cond.code ({ cls := "ExemptDeskModel", name := "annualOf", desc := "(II)I" } : Jvm.MethodName) prog_17_method_57_code (3 : Nat) (Option.some Jvm.ClassFile.FieldType.int)) ∈ lw_all := lw_g (lw_at lw_m11 233 rfl) rfl
theorem q2756 : (Jvm.Cond.constantLong "ExemptDeskModel" (294 : Nat) (4 : Int64)) ∈ lw_all := lw_g (lw_at lw_m11 234 rfl) rfl
theorem q2757 : (Jvm.Cond.methodLink "ExemptDeskModel" (267 : Nat) ({ cls := "ExemptDeskModel", name := "cut", desc := "(JJ)J" } : Jvm.MethodName)) ∈ lw_all := lw_g (lw_at lw_m11 235 rfl) rfl
theorem q2758 : (Jvm.Cond.privateMethod ({ cls := "ExemptDeskModel", name := "cut", desc := "(JJ)J" } : Jvm.MethodName)) ∈ lw_tbl := lw_at lw_m11 236 rfl
theorem q2759 : (Jvm.Cond.instanceMethod ({ cls := "ExemptDeskModel", name := "cut", desc := "(JJ)J" } : Jvm.MethodName)) ∈ lw_all := lw_g (lw_at lw_m11 237 rfl) rfl
theorem q2760 : (Jvm.Cond.code ({ cls := "ExemptDeskModel", name := "cut", desc := "(JJ)J" } : Jvm.MethodName) prog_17_method_47_code (5 : Nat) (Option.some Jvm.ClassFile.FieldType.long)) ∈ lw_all := lw_g (lw_at lw_m11 238 rfl) rfl
theorem q2761 : (Jvm.Cond.methodLink "ExemptDeskModel" (276 : Nat) ({ cls := "ExemptDeskModel", name := "firstTaken", desc := "(II)J" } : Jvm.MethodName)) ∈ lw_all := lw_g (lw_at lw_m11 239 rfl) rfl
theorem q2762 : (Jvm.Cond.privateMethod ({ cls := "ExemptDeskModel", name := "firstTaken", desc := "(II)J" } : Jvm.MethodName)) ∈ lw_tbl := lw_at lw_m12 0 rfl
theorem q2763 : (Jvm.Cond.instanceMethod ({ cls := "ExemptDeskModel", name := "firstTaken", desc := "(II)J" } : Jvm.MethodName)) ∈ lw_all := lw_g (lw_at lw_m12 1 rfl) rfl
theorem q2764 : (Jvm.Cond.code ({ cls := "ExemptDeskModel", name := "firstTaken", desc := "(II)J" } : Jvm.MethodName) prog_17_method_67_code (3 : Nat) (Option.some Jvm.ClassFile.FieldType.long)) ∈ lw_all := lw_g (lw_at lw_m12 2 rfl) rfl
theorem q2765 : (Jvm.Cond.methodLink "ExemptDeskModel" (280 : Nat) ({ cls := "ExemptDeskModel", name := "adjustedBy", desc := "(III)J" } : Jvm.MethodName)) ∈ lw_all := lw_g (lw_at lw_m12 3 rfl) rfl
theorem q2766 : (Jvm.Cond.privateMethod ({ cls := "ExemptDeskModel", name := "adjustedBy", desc := "(III)J" } : Jvm.MethodName)) ∈ lw_tbl := lw_at lw_m12 4 rfl
theorem q2767 : (Jvm.Cond.instanceMethod ({ cls := "ExemptDeskModel", name := "adjustedBy", desc := "(III)J" } : Jvm.MethodName)) ∈ lw_all := lw_g (lw_at lw_m12 5 rfl) rfl
theorem q2768 : (Jvm.Cond.code ({ cls := "ExemptDeskModel", name := "adjustedBy", desc := "(III)J" } : Jvm.MethodName) prog_17_method_65_code (4 : Nat) (Option.some Jvm.ClassFile.FieldType.long)) ∈ lw_all := lw_g (lw_at lw_m12 6 rfl) rfl
theorem q2769 : (Jvm.Cond.methodLink "ExemptDeskModel" (284 : Nat) ({ cls := "ExemptDeskModel", name := "booksFor", desc := "(III)V" } : Jvm.MethodName)) ∈ lw_all := lw_g (lw_at lw_m12 7 rfl) rfl
theorem q2770 : (Jvm.Cond.privateMethod ({ cls := "ExemptDeskModel", name := "booksFor", desc := "(III)V" } : Jvm.MethodName)) ∈ lw_tbl := lw_at lw_m12 8 rfl
theorem q2771 : (Jvm.Cond.instanceMethod ({ cls := "ExemptDeskModel", name := "booksFor", desc := "(III)V" } : Jvm.MethodName)) ∈ lw_all := lw_g (lw_at lw_m12 9 rfl) rfl
theorem q2772 : (Jvm.Cond.code ({ cls := "ExemptDeskModel", name := "booksFor", desc := "(III)V" } : Jvm.MethodName) prog_17_method_69_code (4 : Nat) (Option.none : Option Jvm.ClassFile.FieldType)) ∈ lw_all := lw_g (lw_at lw_m12 10 rfl) rfl
theorem q2773 : (Jvm.Cond.methodLink "ExemptDeskModel" (287 : Nat) ({ cls := "ExemptDeskModel", name := "lastBy", desc := "(IIII)J" } : Jvm.MethodName)) ∈ lw_all := lw_g (lw_at lw_m12 11 rfl) rfl
theorem q2774 : (Jvm.Cond.privateMethod ({ cls := "ExemptDeskModel", name := "lastBy", desc := "(IIII)J" } : Jvm.MethodName)) ∈ lw_tbl := lw_at lw_m12 12 rfl
theorem q2775 : (Jvm.Cond.instanceMethod ({ cls := "ExemptDeskModel", name := "lastBy", desc := "(IIII)J" } : Jvm.MethodName)) ∈ lw_all := lw_g (lw_at lw_m12 13 rfl) rfl
theorem q2776 : (Jvm.Cond.code ({ cls := "ExemptDeskModel", name := "lastBy", desc := "(IIII)J" } : Jvm.MethodName) prog_17_method_66_code (5 : Nat) (Option.some Jvm.ClassFile.FieldType.long)) ∈ lw_all := lw_g (lw_at lw_m12 14 rfl) rfl
theorem q2778 : (Jvm.Cond.instanceMethod ({ cls := "ExemptDeskModel", name := "trader", desc := "(II)I" } : Jvm.MethodName)) ∈ lw_all := lw_g (lw_at lw_m12 16 rfl) rfl
theorem q2779 : (Jvm.Cond.selects "ExemptDeskModel" ({ cls := "ExemptDeskModel", name := "trader", desc := "(II)I" } : Jvm.MethodName) ({ cls := "ExemptDeskModel", name := "trader", desc := "(II)I" } : Jvm.MethodName)) ∈ lw_all := lw_g (lw_at lw_m12 17 rfl) rfl
theorem q2780 : (Jvm.Cond.code ({ cls := "ExemptDeskModel", name := "trader", desc := "(II)I" } : Jvm.MethodName) prog_17_method_85_code (5 : Nat) (Option.some Jvm.ClassFile.FieldType.int)) ∈ lw_all := lw_g (lw_at lw_m12 18 rfl) rfl
theorem q2781 : (Jvm.Cond.methodLink "ExemptDeskModel" (314 : Nat) ({ cls := "ExemptDeskModel", name := "fails", desc := "(I)I" } : Jvm.MethodName)) ∈ lw_all := lw_g (lw_at lw_m12 19 rfl) rfl
theorem q2782 : (Jvm.Cond.privateMethod ({ cls := "ExemptDeskModel", name := "fails", desc := "(I)I" } : Jvm.MethodName)) ∈ lw_tbl := lw_at lw_m12 20 rfl
theorem q2783 : (Jvm.Cond.instanceMethod ({ cls := "ExemptDeskModel", name := "fails", desc := "(I)I" } : Jvm.MethodName)) ∈ lw_all := lw_g (lw_at lw_m12 21 rfl) rfl
theorem q2784 : (Jvm.Cond.code ({ cls := "ExemptDeskModel", name := "fails", desc := "(I)I" } : Jvm.MethodName) prog_17_method_84_code (2 : Nat) (Option.some Jvm.ClassFile.FieldType.int)) ∈ lw_all := lw_g (lw_at lw_m12 22 rfl) rfl
theorem q2786 : (Jvm.Cond.instanceMethod ({ cls := "ExemptDeskModel", name := "asset", desc := "(II)I" } : Jvm.MethodName)) ∈ lw_all := lw_g (lw_at lw_m12 24 rfl) rfl
theorem q2787 : (Jvm.Cond.selects "ExemptDeskModel" ({ cls := "ExemptDeskModel", name := "asset", desc := "(II)I" } : Jvm.MethodName) ({ cls := "ExemptDeskModel", name := "asset", desc := "(II)I" } : Jvm.MethodName)) ∈ lw_all := lw_g (lw_at lw_m12 25 rfl) rfl
theorem q2788 : (Jvm.Cond.code ({ cls := "ExemptDeskModel", name := "asset", desc := "(II)I" } : Jvm.MethodName) prog_17_method_87_code (3 : Nat) (Option.some Jvm.ClassFile.FieldType.int)) ∈ lw_all := lw_g (lw_at lw_m12 26 rfl) rfl
theorem q2789 : (Jvm.Cond.methodLink "ExemptDeskModel" (317 : Nat) ({ cls := "ExemptDeskModel", name := "isThrough", desc := "(I)Z" } : Jvm.MethodName)) ∈ lw_all := lw_g (lw_at lw_m12 27 rfl) rfl
theorem q2790 : (Jvm.Cond.privateMethod ({ cls := "ExemptDeskModel", name := "isThrough", desc := "(I)Z" } : Jvm.MethodName)) ∈ lw_tbl := lw_at lw_m12 28 rfl
theorem q2791 : (Jvm.Cond.instanceMethod ({ cls := "ExemptDeskModel", name := "isThrough", desc := "(I)Z" } : Jvm.MethodName)) ∈ lw_all := lw_g (lw_at lw_m12 29 rfl) rfl
theorem q2792 : (Jvm.Cond.code ({ cls := "ExemptDeskModel", name := "isThrough", desc := "(I)Z" } : Jvm.MethodName) prog_17_method_86_code (2 : Nat) (Option.some Jvm.ClassFile.FieldType.boolean)) ∈ lw_all := lw_g (lw_at lw_m12 30 rfl) rfl
theorem q2794 : (Jvm.Cond.instanceMethod ({ cls := "ExemptDeskModel", name := "sum", desc := "(III)I" } : Jvm.MethodName)) ∈ lw_all := lw_g (lw_at lw_m12 32 rfl) rfl
theorem q2795 : (Jvm.Cond.selects "ExemptDeskModel" ({ cls := "ExemptDeskModel", name := "sum", desc := "(III)I" } : Jvm.MethodName) ({ cls := "ExemptDeskModel", name := "sum", desc := "(III)I" } : Jvm.MethodName)) ∈ lw_all := lw_g (lw_at lw_m12 33 rfl) rfl
theorem q2796 : (Jvm.Cond.code ({ cls := "ExemptDeskModel", name := "sum", desc := "(III)I" } : Jvm.MethodName) prog_17_method_88_code (4 : Nat) (Option.some Jvm.ClassFile.FieldType.int)) ∈ lw_all := lw_g (lw_at lw_m12 34 rfl) rfl
theorem q2797 : (Jvm.Cond.methodLink "ExemptDeskModel" (320 : Nat) ({ cls := "ExemptDeskModel", name := "isQuarter", desc := "(I)Z" } : Jvm.MethodName)) ∈ lw_all := lw_g (lw_at lw_m12 35 rfl) rfl
theorem q2798 : (Jvm.Cond.privateMethod ({ cls := "ExemptDeskModel", name := "isQuarter", desc := "(I)Z" } : Jvm.MethodName)) ∈ lw_tbl := lw_at lw_m12 36 rfl
theorem q2799 : (Jvm.Cond.instanceMethod ({ cls := "ExemptDeskModel", name := "isQuarter", desc := "(I)Z" } : Jvm.MethodName)) ∈ lw_all := lw_g (lw_at lw_m12 37 rfl) rfl
theorem q2800 : (Jvm.Cond.code ({ cls := "ExemptDeskModel", name := "isQuarter", desc := "(I)Z" } : Jvm.MethodName) prog_17_method_71_code (2 : Nat) (Option.some Jvm.ClassFile.FieldType.boolean)) ∈ lw_all := lw_g (lw_at lw_m12 38 rfl) rfl
theorem q2802 : (Jvm.Cond.instanceMethod ({ cls := "ExemptDeskModel", name := "provisional", desc := "(II)I" } : Jvm.MethodName)) ∈ lw_all := lw_g (lw_at lw_m12 40 rfl) rfl
theorem q2803 : (Jvm.Cond.selects "ExemptDeskModel" ({ cls := "ExemptDeskModel", name := "provisional", desc := "(II)I" } : Jvm.MethodName) ({ cls := "ExemptDeskModel", name := "provisional", desc := "(II)I" } : Jvm.MethodName)) ∈ lw_all := lw_g (lw_at lw_m12 41 rfl) rfl
theorem q2804 : (Jvm.Cond.code ({ cls := "ExemptDeskModel", name := "provisional", desc := "(II)I" } : Jvm.MethodName) prog_17_method_89_code (3 : Nat) (Option.some Jvm.ClassFile.FieldType.int)) ∈ lw_all := lw_g (lw_at lw_m12 42 rfl) rfl
theorem q2806 : (Jvm.Cond.instanceMethod ({ cls := "ExemptDeskModel", name := "recovered", desc := "(II)I" } : Jvm.MethodName)) ∈ lw_all := lw_g (lw_at lw_m12 44 rfl) rfl
theorem q2807 : (Jvm.Cond.selects "ExemptDeskModel" ({ cls := "ExemptDeskModel", name := "recovered", desc := "(II)I" } : Jvm.MethodName) ({ cls := "ExemptDeskModel", name := "recovered", desc := "(II)I" } : Jvm.MethodName)) ∈ lw_all := lw_g (lw_at lw_m12 45 rfl) rfl
theorem q2808 : (Jvm.Cond.code ({ cls := "ExemptDeskModel", name := "recovered", desc := "(II)I" } : Jvm.MethodName) prog_17_method_90_code (3 : Nat) (Option.some Jvm.ClassFile.FieldType.int)) ∈ lw_all := lw_g (lw_at lw_m12 46 rfl) rfl
theorem q2810 : (Jvm.Cond.instanceMethod ({ cls := "ExemptDeskModel", name := "annual", desc := "(III)I" } : Jvm.MethodName)) ∈ lw_all := lw_g (lw_at lw_m12 48 rfl) rfl
theorem q2811 : (Jvm.Cond.selects "ExemptDeskModel" ({ cls := "ExemptDeskModel", name := "annual", desc := "(III)I" } : Jvm.MethodName) ({ cls := "ExemptDeskModel", name := "annual", desc := "(III)I" } : Jvm.MethodName)) ∈ lw_all := lw_g (lw_at lw_m12 49 rfl) rfl
theorem q2812 : (Jvm.Cond.code ({ cls := "ExemptDeskModel", name := "annual", desc := "(III)I" } : Jvm.MethodName) prog_17_method_93_code (5 : Nat) (Option.some Jvm.ClassFile.FieldType.int)) ∈ lw_all := lw_g (lw_at lw_m12 50 rfl) rfl
theorem q2813 : (Jvm.Cond.methodLink "ExemptDeskModel" (323 : Nat) ({ cls := "ExemptDeskModel", name := "isYear", desc := "(II)Z" } : Jvm.MethodName)) ∈ lw_all := lw_g (lw_at lw_m12 51 rfl) rfl
theorem q2814 : (Jvm.Cond.privateMethod ({ cls := "ExemptDeskModel", name := "isYear", desc := "(II)Z" } : Jvm.MethodName)) ∈ lw_tbl := lw_at lw_m12 52 rfl
theorem q2815 : (Jvm.Cond.instanceMethod ({ cls := "ExemptDeskModel", name := "isYear", desc := "(II)Z" } : Jvm.MethodName)) ∈ lw_all := lw_g (lw_at lw_m12 53 rfl) rfl
theorem q2816 : (Jvm.Cond.code ({ cls := "ExemptDeskModel", name := "isYear", desc := "(II)Z" } : Jvm.MethodName) prog_17_method_91_code (3 : Nat) (Option.some Jvm.ClassFile.FieldType.boolean)) ∈ lw_all := lw_g (lw_at lw_m12 54 rfl) rfl
theorem q2817 : (Jvm.Cond.constant "ExemptDeskModel" (326 : Nat) (-999999 : Int32)) ∈ lw_all := lw_g (lw_at lw_m12 55 rfl) rfl
theorem q2818 : (Jvm.Cond.methodLink "ExemptDeskModel" (327 : Nat) ({ cls := "ExemptDeskModel", name := "backOf", desc := "(II)I" } : Jvm.MethodName)) ∈ lw_all := lw_g (lw_at lw_m12 56 rfl) rfl
theorem q2819 : (Jvm.Cond.privateMethod ({ cls := "ExemptDeskModel", name := "backOf", desc := "(II)I" } : Jvm.MethodName)) ∈ lw_tbl := lw_at lw_m12 57 rfl
theorem q2820 : (Jvm.Cond.instanceMethod ({ cls := "ExemptDeskModel", name := "backOf", desc := "(II)I" } : Jvm.MethodName)) ∈ lw_all := lw_g (lw_at lw_m12 58 rfl) rfl
theorem q2821 : (Jvm.Cond.code ({ cls := "ExemptDeskModel", name := "backOf", desc := "(II)I" } : Jvm.MethodName) prog_17_method_92_code (3 : Nat) (Option.some Jvm.ClassFile.FieldType.int)) ∈ lw_all := lw_g (lw_at lw_m12 59 rfl) rfl
theorem q2823 : (Jvm.Cond.instanceMethod ({ cls := "ExemptDeskModel", name := "interval", desc := "(III)I" } : Jvm.MethodName)) ∈ lw_all := lw_g (lw_at lw_m12 61 rfl) rfl
theorem q2824 : (Jvm.Cond.selects "ExemptDeskModel" ({ cls := "ExemptDeskModel", name := "interval", desc := "(III)I" } : Jvm.MethodName) ({ cls := "ExemptDeskModel", name := "interval", desc := "(III)I" } : Jvm.MethodName)) ∈ lw_all := lw_g (lw_at lw_m12 62 rfl) rfl
theorem q2825 : (Jvm.Cond.code ({ cls := "ExemptDeskModel", name := "interval", desc := "(III)I" } : Jvm.MethodName) prog_17_method_94_code (4 : Nat) (Option.some Jvm.ClassFile.FieldType.int)) ∈ lw_all := lw_g (lw_at lw_m12 63 rfl) rfl
theorem q2827 : (Jvm.Cond.instanceMethod ({ cls := "ExemptDeskModel", name := "taken", desc := "(I)I" } : Jvm.MethodName)) ∈ lw_all := lw_g (lw_at lw_m12 65 rfl) rfl
theorem q2828 : (Jvm.Cond.selects "ExemptDeskModel" ({ cls := "ExemptDeskModel", name := "taken", desc := "(I)I" } : Jvm.MethodName) ({ cls := "ExemptDeskModel", name := "taken", desc := "(I)I" } : Jvm.MethodName)) ∈ lw_all := lw_g (lw_at lw_m12 66 rfl) rfl
theorem q2829 : (Jvm.Cond.code ({ cls := "ExemptDeskModel", name := "taken", desc := "(I)I" } : Jvm.MethodName) prog_17_method_95_code (2 : Nat) (Option.some Jvm.ClassFile.FieldType.int)) ∈ lw_all := lw_g (lw_at lw_m12 67 rfl) rfl
theorem q2831 : (Jvm.Cond.instanceMethod ({ cls := "ExemptDeskModel", name := "last", desc := "(I)I" } : Jvm.MethodName)) ∈ lw_all := lw_g (lw_at lw_m12 69 rfl) rfl
theorem q2832 : (Jvm.Cond.selects "ExemptDeskModel" ({ cls := "ExemptDeskModel", name := "last", desc := "(I)I" } : Jvm.MethodName) ({ cls := "ExemptDeskModel", name := "last", desc := "(I)I" } : Jvm.MethodName)) ∈ lw_all := lw_g (lw_at lw_m12 70 rfl) rfl
theorem q2833 : (Jvm.Cond.code ({ cls := "ExemptDeskModel", name := "last", desc := "(I)I" } : Jvm.MethodName) prog_17_method_96_code (2 : Nat) (Option.some Jvm.ClassFile.FieldType.int)) ∈ lw_all := lw_g (lw_at lw_m12 71 rfl) rfl
theorem q2835 : (Jvm.Cond.instanceMethod ({ cls := "ExemptDeskModel", name := "booked", desc := "(II)I" } : Jvm.MethodName)) ∈ lw_all := lw_g (lw_at lw_m12 73 rfl) rfl
theorem q2836 : (Jvm.Cond.selects "ExemptDeskModel" ({ cls := "ExemptDeskModel", name := "booked", desc := "(II)I" } : Jvm.MethodName) ({ cls := "ExemptDeskModel", name := "booked", desc := "(II)I" } : Jvm.MethodName)) ∈ lw_all := lw_g (lw_at lw_m12 74 rfl) rfl
theorem q2837 : (Jvm.Cond.code ({ cls := "ExemptDeskModel", name := "booked", desc := "(II)I" } : Jvm.MethodName) prog_17_method_97_code (3 : Nat) (Option.some Jvm.ClassFile.FieldType.int)) ∈ lw_all := lw_g (lw_at lw_m12 75 rfl) rfl
theorem q2839 : (Jvm.Cond.instanceMethod ({ cls := "ExemptDeskModel", name := "total", desc := "(II)I" } : Jvm.MethodName)) ∈ lw_all := lw_g (lw_at lw_m12 77 rfl) rfl
theorem q2840 : (Jvm.Cond.selects "ExemptDeskModel" ({ cls := "ExemptDeskModel", name := "total", desc := "(II)I" } : Jvm.MethodName) ({ cls := "ExemptDeskModel", name := "total", desc := "(II)I" } : Jvm.MethodName)) ∈ lw_all := lw_g (lw_at lw_m12 78 rfl) rfl
theorem q2841 : (Jvm.Cond.code ({ cls := "ExemptDeskModel", name := "total", desc := "(II)I" } : Jvm.MethodName) prog_17_method_98_code (3 : Nat) (Option.some Jvm.ClassFile.FieldType.int)) ∈ lw_all := lw_g (lw_at lw_m12 79 rfl) rfl
theorem q2843 : (Jvm.Cond.instanceMethod ({ cls := "ExemptDeskModel", name := "by", desc := "(IIIII)I" } : Jvm.MethodName)) ∈ lw_all := lw_g (lw_at lw_m12 81 rfl) rfl
theorem q2844 : (Jvm.Cond.selects "ExemptDeskModel" ({ cls := "ExemptDeskModel", name := "by", desc := "(IIIII)I" } : Jvm.MethodName) ({ cls := "ExemptDeskModel", name := "by", desc := "(IIIII)I" } : Jvm.MethodName)) ∈ lw_all := lw_g (lw_at lw_m12 82 rfl) rfl
theorem q2845 : (Jvm.Cond.code ({ cls := "ExemptDeskModel", name := "by", desc := "(IIIII)I" } : Jvm.MethodName) prog_17_method_99_code (6 : Nat) (Option.some Jvm.ClassFile.FieldType.int)) ∈ lw_all := lw_g (lw_at lw_m12 83 rfl) rfl
theorem q2847 : (Jvm.Cond.instanceMethod ({ cls := "ExemptDeskModel", name := "bestMethod", desc := "(II)I" } : Jvm.MethodName)) ∈ lw_all := lw_g (lw_at lw_m12 85 rfl) rfl
theorem q2848 : (Jvm.Cond.selects "ExemptDeskModel" ({ cls := "ExemptDeskModel", name := "bestMethod", desc := "(II)I" } : Jvm.MethodName) ({ cls := "ExemptDeskModel", name := "bestMethod", desc := "(II)I" } : Jvm.MethodName)) ∈ lw_all := lw_g (lw_at lw_m12 86 rfl) rfl
theorem q2849 : (Jvm.Cond.code ({ cls := "ExemptDeskModel", name := "bestMethod", desc := "(II)I" } : Jvm.MethodName) prog_17_method_100_code (7 : Nat) (Option.some Jvm.ClassFile.FieldType.int)) ∈ lw_all := lw_g (lw_at lw_m12 87 rfl) rfl
theorem q2851 : (Jvm.Cond.instanceMethod ({ cls := "ExemptDeskModel", name := "bestStep", desc := "(II)I" } : Jvm.MethodName)) ∈ lw_all := lw_g (lw_at lw_m12 89 rfl) rfl
theorem q2852 : (Jvm.Cond.selects "ExemptDeskModel" ({ cls := "ExemptDeskModel", name := "bestStep", desc := "(II)I" } : Jvm.MethodName) ({ cls := "ExemptDeskModel", name := "bestStep", desc := "(II)I" } : Jvm.MethodName)) ∈ lw_all := lw_g (lw_at lw_m12 90 rfl) rfl
theorem q2853 : (Jvm.Cond.code ({ cls := "ExemptDeskModel", name := "bestStep", desc := "(II)I" } : Jvm.MethodName) prog_17_method_101_code (7 : Nat) (Option.some Jvm.ClassFile.FieldType.int)) ∈ lw_all := lw_g (lw_at lw_m12 91 rfl) rfl
theorem q2855 : (Jvm.Cond.instanceMethod ({ cls := "ExemptDeskModel", name := "joint", desc := "(III)I" } : Jvm.MethodName)) ∈ lw_all := lw_g (lw_at lw_m12 93 rfl) rfl
theorem q2856 : (Jvm.Cond.selects "ExemptDeskModel" ({ cls := "ExemptDeskModel", name := "joint", desc := "(III)I" } : Jvm.MethodName) ({ cls := "ExemptDeskModel", name := "joint", desc := "(III)I" } : Jvm.MethodName)) ∈ lw_all := lw_g (lw_at lw_m12 94 rfl) rfl
theorem q2857 : (Jvm.Cond.code ({ cls := "ExemptDeskModel", name := "joint", desc := "(III)I" } : Jvm.MethodName) prog_17_method_102_code (5 : Nat) (Option.some Jvm.ClassFile.FieldType.int)) ∈ lw_all := lw_g (lw_at lw_m12 95 rfl) rfl
theorem q2859 : (Jvm.Cond.instanceMethod ({ cls := "ExemptDeskModel", name := "limitFor", desc := "(II)I" } : Jvm.MethodName)) ∈ lw_all := lw_g (lw_at lw_m12 97 rfl) rfl
theorem q2860 : (Jvm.Cond.selects "ExemptDeskModel" ({ cls := "ExemptDeskModel", name := "limitFor", desc := "(II)I" } : Jvm.MethodName) ({ cls := "ExemptDeskModel", name := "limitFor", desc := "(II)I" } : Jvm.MethodName)) ∈ lw_all := lw_g (lw_at lw_m12 98 rfl) rfl
theorem q2861 : (Jvm.Cond.code ({ cls := "ExemptDeskModel", name := "limitFor", desc := "(II)I" } : Jvm.MethodName) prog_17_method_103_code (7 : Nat) (Option.some Jvm.ClassFile.FieldType.int)) ∈ lw_all := lw_g (lw_at lw_m12 99 rfl) rfl
theorem q2863 : (Jvm.Cond.instanceMethod ({ cls := "ExemptDeskModel", name := "byBasis", desc := "(III)I" } : Jvm.MethodName)) ∈ lw_all := lw_g (lw_at lw_m12 101 rfl) rfl
theorem q2864 : (Jvm.Cond.selects "ExemptDeskModel" ({ cls := "ExemptDeskModel", name := "byBasis", desc := "(III)I" } : Jvm.MethodName) ({ cls := "ExemptDeskModel", name := "byBasis", desc := "(III)I" } : Jvm.MethodName)) ∈ lw_all := lw_g (lw_at lw_m12 102 rfl) rfl
theorem q2865 : (Jvm.Cond.code ({ cls := "ExemptDeskModel", name := "byBasis", desc := "(III)I" } : Jvm.MethodName) prog_17_method_104_code (5 : Nat) (Option.some Jvm.ClassFile.FieldType.int)) ∈ lw_all := lw_g (lw_at lw_m12 103 rfl) rfl
theorem q2867 : (Jvm.Cond.instanceMethod ({ cls := "ExemptDeskModel", name := "leader", desc := "(I)I" } : Jvm.MethodName)) ∈ lw_all := lw_g (lw_at lw_m12 105 rfl) rfl
theorem q2868 : (Jvm.Cond.selects "ExemptDeskModel" ({ cls := "ExemptDeskModel", name := "leader", desc := "(I)I" } : Jvm.MethodName) ({ cls := "ExemptDeskModel", name := "leader", desc := "(I)I" } : Jvm.MethodName)) ∈ lw_all := lw_g (lw_at lw_m12 106 rfl) rfl
theorem q2869 : (Jvm.Cond.code ({ cls := "ExemptDeskModel", name := "leader", desc := "(I)I" } : Jvm.MethodName) prog_17_method_105_code (6 : Nat) (Option.some Jvm.ClassFile.FieldType.int)) ∈ lw_all := lw_g (lw_at lw_m12 107 rfl) rfl
theorem q2871 : (Jvm.Cond.instanceMethod ({ cls := "ExemptDeskModel", name := "rise", desc := "(I)I" } : Jvm.MethodName)) ∈ lw_all := lw_g (lw_at lw_m12 109 rfl) rfl
theorem q2872 : (Jvm.Cond.selects "ExemptDeskModel" ({ cls := "ExemptDeskModel", name := "rise", desc := "(I)I" } : Jvm.MethodName) ({ cls := "ExemptDeskModel", name := "rise", desc := "(I)I" } : Jvm.MethodName)) ∈ lw_all := lw_g (lw_at lw_m12 110 rfl) rfl
theorem q2873 : (Jvm.Cond.code ({ cls := "ExemptDeskModel", name := "rise", desc := "(I)I" } : Jvm.MethodName) prog_17_method_106_code (5 : Nat) (Option.some Jvm.ClassFile.FieldType.int)) ∈ lw_all := lw_g (lw_at lw_m12 111 rfl) rfl
theorem q2875 : (Jvm.Cond.instanceMethod ({ cls := "ExemptDeskModel", name := "need", desc := "(II)I" } : Jvm.MethodName)) ∈ lw_all := lw_g (lw_at lw_m12 113 rfl) rfl
theorem q2876 : (Jvm.Cond.selects "ExemptDeskModel" ({ cls := "ExemptDeskModel", name := "need", desc := "(II)I" } : Jvm.MethodName) ({ cls := "ExemptDeskModel", name := "need", desc := "(II)I" } : Jvm.MethodName)) ∈ lw_all := lw_g (lw_at lw_m12 114 rfl) rfl
theorem q2877 : (Jvm.Cond.code ({ cls := "ExemptDeskModel", name := "need", desc := "(II)I" } : Jvm.MethodName) prog_17_method_107_code (11 : Nat) (Option.some Jvm.ClassFile.FieldType.int)) ∈ lw_all := lw_g (lw_at lw_m12 115 rfl) rfl
theorem q2878 : (Jvm.Cond.constantLong "ExemptDeskModel" (330 : Nat) (100000000 : Int64)) ∈ lw_all := lw_g (lw_at lw_m12 116 rfl) rfl
theorem q2880 : (Jvm.Cond.instanceMethod ({ cls := "ExemptDeskModel", name := "room", desc := "(II)I" } : Jvm.MethodName)) ∈ lw_all := lw_g (lw_at lw_m12 118 rfl) rfl
theorem q2881 : (Jvm.Cond.selects "ExemptDeskModel" ({ cls := "ExemptDeskModel", name := "room", desc := "(II)I" } : Jvm.MethodName) ({ cls := "ExemptDeskModel", name := "room", desc := "(II)I" } : Jvm.MethodName)) ∈ lw_all := lw_g (lw_at lw_m12 119 rfl) rfl
theorem q2882 : (Jvm.Cond.code ({ cls := "ExemptDeskModel", name := "room", desc := "(II)I" } : Jvm.MethodName) prog_17_method_108_code (4 : Nat) (Option.some Jvm.ClassFile.FieldType.int)) ∈ lw_all := lw_g (lw_at lw_m12 120 rfl) rfl
theorem q2884 : (Jvm.Cond.instanceMethod ({ cls := "ExemptDeskModel", name := "would", desc := "(II)I" } : Jvm.MethodName)) ∈ lw_all := lw_g (lw_at lw_m12 122 rfl) rfl
theorem q2885 : (Jvm.Cond.selects "ExemptDeskModel" ({ cls := "ExemptDeskModel", name := "would", desc := "(II)I" } : Jvm.MethodName) ({ cls := "ExemptDeskModel", name := "would", desc := "(II)I" } : Jvm.MethodName)) ∈ lw_all := lw_g (lw_at lw_m12 123 rfl) rfl
theorem q2886 : (Jvm.Cond.code ({ cls := "ExemptDeskModel", name := "would", desc := "(II)I" } : Jvm.MethodName) prog_17_method_110_code (3 : Nat) (Option.some Jvm.ClassFile.FieldType.int)) ∈ lw_all := lw_g (lw_at lw_m12 124 rfl) rfl
theorem q2887 : (Jvm.Cond.methodLink "ExemptDeskModel" (332 : Nat) ({ cls := "ExemptDeskModel", name := "baseNow", desc := "(I)I" } : Jvm.MethodName)) ∈ lw_all := lw_g (lw_at lw_m12 125 rfl) rfl
theorem q2888 : (Jvm.Cond.privateMethod ({ cls := "ExemptDeskModel", name := "baseNow", desc := "(I)I" } : Jvm.MethodName)) ∈ lw_tbl := lw_at lw_m12 126 rfl
theorem q2889 : (Jvm.Cond.instanceMethod ({ cls := "ExemptDeskModel", name := "baseNow", desc := "(I)I" } : Jvm.MethodName)) ∈ lw_all := lw_g (lw_at lw_m12 127 rfl) rfl
theorem q2890 : (Jvm.Cond.code ({ cls := "ExemptDeskModel", name := "baseNow", desc := "(I)I" } : Jvm.MethodName) prog_17_method_109_code (2 : Nat) (Option.some Jvm.ClassFile.FieldType.int)) ∈ lw_all := lw_g (lw_at lw_m12 128 rfl) rfl
theorem q2892 : (Jvm.Cond.instanceMethod ({ cls := "ExemptDeskModel", name := "bestWait", desc := "(II)I" } : Jvm.MethodName)) ∈ lw_all := lw_g (lw_at lw_m12 130 rfl) rfl
theorem q2893 : (Jvm.Cond.selects "ExemptDeskModel" ({ cls := "ExemptDeskModel", name := "bestWait", desc := "(II)I" } : Jvm.MethodName) ({ cls := "ExemptDeskModel", name := "bestWait", desc := "(II)I" } : Jvm.MethodName)) ∈ lw_all := lw_g (lw_at lw_m12 131 rfl) rfl
theorem q2894 : (Jvm.Cond.code ({ cls := "ExemptDeskModel", name := "bestWait", desc := "(II)I" } : Jvm.MethodName) prog_17_method_111_code (12 : Nat) (Option.some Jvm.ClassFile.FieldType.int)) ∈ lw_all := lw_g (lw_at lw_m12 132 rfl) rfl
theorem q2896 : (Jvm.Cond.instanceMethod ({ cls := "ExemptDeskModel", name := "project", desc := "(II)I" } : Jvm.MethodName)) ∈ lw_all := lw_g (lw_at lw_m12 134 rfl) rfl
theorem q2897 : (Jvm.Cond.selects "ExemptDeskModel" ({ cls := "ExemptDeskModel", name := "project", desc := "(II)I" } : Jvm.MethodName) ({ cls := "ExemptDeskModel", name := "project", desc := "(II)I" } : Jvm.MethodName)) ∈ lw_all := lw_g (lw_at lw_m12 135 rfl) rfl
theorem q2898 : (Jvm.Cond.code ({ cls := "ExemptDeskModel", name := "project", desc := "(II)I" } : Jvm.MethodName) prog_17_method_112_code (6 : Nat) (Option.some Jvm.ClassFile.FieldType.int)) ∈ lw_all := lw_g (lw_at lw_m12 136 rfl) rfl
theorem q2900 : (Jvm.Cond.instanceMethod ({ cls := "ExemptDeskModel", name := "ifUse", desc := "(II)I" } : Jvm.MethodName)) ∈ lw_all := lw_g (lw_at lw_m12 138 rfl) rfl
theorem q2901 : (Jvm.Cond.selects "ExemptDeskModel" ({ cls := "ExemptDeskModel", name := "ifUse", desc := "(II)I" } : Jvm.MethodName) ({ cls := "ExemptDeskModel", name := "ifUse", desc := "(II)I" } : Jvm.MethodName)) ∈ lw_all := lw_g (lw_at lw_m12 139 rfl) rfl
theorem q2902 : (Jvm.Cond.code ({ cls := "ExemptDeskModel", name := "ifUse", desc := "(II)I" } : Jvm.MethodName) prog_17_method_113_code (3 : Nat) (Option.some Jvm.ClassFile.FieldType.int)) ∈ lw_all := lw_g (lw_at lw_m12 140 rfl) rfl
theorem q2904 : (Jvm.Cond.instanceMethod ({ cls := "ExemptDeskModel", name := "owners", desc := "(I)I" } : Jvm.MethodName)) ∈ lw_all := lw_g (lw_at lw_m12 142 rfl) rfl
theorem q2905 : (Jvm.Cond.selects "ExemptDeskModel" ({ cls := "ExemptDeskModel", name := "owners", desc := "(I)I" } : Jvm.MethodName) ({ cls := "ExemptDeskModel", name := "owners", desc := "(I)I" } : Jvm.MethodName)) ∈ lw_all := lw_g (lw_at lw_m12 143 rfl) rfl
theorem q2906 : (Jvm.Cond.code ({ cls := "ExemptDeskModel", name := "owners", desc := "(I)I" } : Jvm.MethodName) prog_17_method_114_code (5 : Nat) (Option.some Jvm.ClassFile.FieldType.int)) ∈ lw_all := lw_g (lw_at lw_m12 144 rfl) rfl
theorem q2908 : (Jvm.Cond.instanceMethod ({ cls := "ExemptDeskModel", name := "even", desc := "(II)I" } : Jvm.MethodName)) ∈ lw_all := lw_g (lw_at lw_m12 146 rfl) rfl
theorem q2909 : (Jvm.Cond.selects "ExemptDeskModel" ({ cls := "ExemptDeskModel", name := "even", desc := "(II)I" } : Jvm.MethodName) ({ cls := "ExemptDeskModel", name := "even", desc := "(II)I" } : Jvm.MethodName)) ∈ lw_all := lw_g (lw_at lw_m12 147 rfl) rfl
theorem q2910 : (Jvm.Cond.code ({ cls := "ExemptDeskModel", name := "even", desc := "(II)I" } : Jvm.MethodName) prog_17_method_115_code (4 : Nat) (Option.some Jvm.ClassFile.FieldType.int)) ∈ lw_all := lw_g (lw_at lw_m12 148 rfl) rfl
theorem q2911 : (Jvm.Cond.constant "ExemptDeskModel" (335 : Nat) (-99999 : Int32)) ∈ lw_all := lw_g (lw_at lw_m12 149 rfl) rfl
theorem q2913 : (Jvm.Cond.instanceMethod ({ cls := "ExemptDeskModel", name := "worth", desc := "(I)I" } : Jvm.MethodName)) ∈ lw_all := lw_g (lw_at lw_m12 151 rfl) rfl
theorem q2914 : (Jvm.Cond.selects "ExemptDeskModel" ({ cls := "ExemptDeskModel", name := "worth", desc := "(I)I" } : Jvm.MethodName) ({ cls := "ExemptDeskModel", name := "worth", desc := "(I)I" } : Jvm.MethodName)) ∈ lw_all := lw_g (lw_at lw_m12 152 rfl) rfl
theorem q2915 : (Jvm.Cond.code ({ cls := "ExemptDeskModel", name := "worth", desc := "(I)I" } : Jvm.MethodName) prog_17_method_116_code (2 : Nat) (Option.some Jvm.ClassFile.FieldType.int)) ∈ lw_all := lw_g (lw_at lw_m12 153 rfl) rfl
theorem q2917 : (Jvm.Cond.instanceMethod ({ cls := "ExemptDeskModel", name := "tried", desc := "(III)I" } : Jvm.MethodName)) ∈ lw_all := lw_g (lw_at lw_m12 155 rfl) rfl
theorem q2918 : (Jvm.Cond.selects "ExemptDeskModel" ({ cls := "ExemptDeskModel", name := "tried", desc := "(III)I" } : Jvm.MethodName) ({ cls := "ExemptDeskModel", name := "tried", desc := "(III)I" } : Jvm.MethodName)) ∈ lw_all := lw_g (lw_at lw_m12 156 rfl) rfl
theorem q2919 : (Jvm.Cond.code ({ cls := "ExemptDeskModel", name := "tried", desc := "(III)I" } : Jvm.MethodName) prog_17_method_118_code (6 : Nat) (Option.some Jvm.ClassFile.FieldType.int)) ∈ lw_all := lw_g (lw_at lw_m12 157 rfl) rfl
theorem q2920 : (Jvm.Cond.methodLink "ExemptDeskModel" (336 : Nat) ({ cls := "ExemptDeskModel", name := "asNow", desc := "()V" } : Jvm.MethodName)) ∈ lw_all := lw_g (lw_at lw_m12 158 rfl) rfl
theorem q2921 : (Jvm.Cond.privateMethod ({ cls := "ExemptDeskModel", name := "asNow", desc := "()V" } : Jvm.MethodName)) ∈ lw_tbl := lw_at lw_m12 159 rfl
theorem q2922 : (Jvm.Cond.instanceMethod ({ cls := "ExemptDeskModel", name := "asNow", desc := "()V" } : Jvm.MethodName)) ∈ lw_all := lw_g (lw_at lw_m12 160 rfl) rfl
theorem q2923 : (Jvm.Cond.code ({ cls := "ExemptDeskModel", name := "asNow", desc := "()V" } : Jvm.MethodName) prog_17_method_117_code (1 : Nat) (Option.none : Option Jvm.ClassFile.FieldType)) ∈ lw_all := lw_g (lw_at lw_m12 161 rfl) rfl
theorem q2925 : (Jvm.Cond.instanceMethod ({ cls := "ExemptDeskModel", name := "chance", desc := "(III)I" } : Jvm.MethodName)) ∈ lw_all := lw_g (lw_at lw_m12 163 rfl) rfl
theorem q2926 : (Jvm.Cond.selects "ExemptDeskModel" ({ cls := "ExemptDeskModel", name := "chance", desc := "(III)I" } : Jvm.MethodName) ({ cls := "ExemptDeskModel", name := "chance", desc := "(III)I" } : Jvm.MethodName)) ∈ lw_all := lw_g (lw_at lw_m12 164 rfl) rfl
theorem q2927 : (Jvm.Cond.code ({ cls := "ExemptDeskModel", name := "chance", desc := "(III)I" } : Jvm.MethodName) prog_17_method_121_code (6 : Nat) (Option.some Jvm.ClassFile.FieldType.int)) ∈ lw_all := lw_g (lw_at lw_m12 165 rfl) rfl
theorem q2928 : (Jvm.Cond.methodLink "ExemptDeskModel" (350 : Nat) ({ cls := "ExemptDeskModel", name := "totalOf", desc := "(I)I" } : Jvm.MethodName)) ∈ lw_all := lw_g (lw_at lw_m12 166 rfl) rfl
theorem q2929 : (Jvm.Cond.privateMethod ({ cls := "ExemptDeskModel", name := "totalOf", desc := "(I)I" } : Jvm.MethodName)) ∈ lw_tbl := lw_at lw_m12 167 rfl
theorem q2930 : (Jvm.Cond.instanceMethod ({ cls := "ExemptDeskModel", name := "totalOf", desc := "(I)I" } : Jvm.MethodName)) ∈ lw_all := lw_g (lw_at lw_m12 168 rfl) rfl
theorem q2931 : (Jvm.Cond.code ({ cls := "ExemptDeskModel", name := "totalOf", desc := "(I)I" } : Jvm.MethodName) prog_17_method_120_code (2 : Nat) (Option.some Jvm.ClassFile.FieldType.int)) ∈ lw_all := lw_g (lw_at lw_m12 169 rfl) rfl
theorem q2932 : (Jvm.Cond.methodLink "ExemptDeskModel" (353 : Nat) ({ cls := "ExemptDeskModel", name := "draw", desc := "(I)I" } : Jvm.MethodName)) ∈ lw_all := lw_g (lw_at lw_m12 170 rfl) rfl
theorem q2933 : (Jvm.Cond.privateMethod ({ cls := "ExemptDeskModel", name := "draw", desc := "(I)I" } : Jvm.MethodName)) ∈ lw_tbl := lw_at lw_m12 171 rfl
theorem q2934 : (Jvm.Cond.instanceMethod ({ cls := "ExemptDeskModel", name := "draw", desc := "(I)I" } : Jvm.MethodName)) ∈ lw_all := lw_g (lw_at lw_m12 172 rfl) rfl
theorem q2935 : (Jvm.Cond.code ({ cls := "ExemptDeskModel", name := "draw", desc := "(I)I" } : Jvm.MethodName) prog_17_method_119_code (2 : Nat) (Option.some Jvm.ClassFile.FieldType.int)) ∈ lw_all := lw_g (lw_at lw_m12 173 rfl) rfl
theorem q2936 : (Jvm.Cond.constantLong "ExemptDeskModel" (342 : Nat) (1103515245 : Int64)) ∈ lw_all := lw_g (lw_at lw_m12 174 rfl) rfl
theorem q2937 : (Jvm.Cond.constantLong "ExemptDeskModel" (344 : Nat) (12345 : Int64)) ∈ lw_all := lw_g (lw_at lw_m12 175 rfl) rfl
theorem q2938 : (Jvm.Cond.constantLong "ExemptDeskModel" (346 : Nat) (2147483647 : Int64)) ∈ lw_all := lw_g (lw_at lw_m12 176 rfl) rfl
theorem q2939 : (Jvm.Cond.constantLong "ExemptDeskModel" (348 : Nat) (65536 : Int64)) ∈ lw_all := lw_g (lw_at lw_m12 177 rfl) rfl
theorem q2941 : (Jvm.Cond.instanceMethod ({ cls := "ExemptDeskModel", name := "farthest", desc := "(I)I" } : Jvm.MethodName)) ∈ lw_all := lw_g (lw_at lw_m12 179 rfl) rfl
theorem q2942 : (Jvm.Cond.selects "ExemptDeskModel" ({ cls := "ExemptDeskModel", name := "farthest", desc := "(I)I" } : Jvm.MethodName) ({ cls := "ExemptDeskModel", name := "farthest", desc := "(I)I" } : Jvm.MethodName)) ∈ lw_all := lw_g (lw_at lw_m12 180 rfl) rfl
theorem q2943 : (Jvm.Cond.code ({ cls := "ExemptDeskModel", name := "farthest", desc := "(I)I" } : Jvm.MethodName) prog_17_method_122_code (6 : Nat) (Option.some Jvm.ClassFile.FieldType.int)) ∈ lw_all := lw_g (lw_at lw_m12 181 rfl) rfl
theorem q2945 : (Jvm.Cond.instanceMethod ({ cls := "ExemptDeskModel", name := "count", desc := "(I)I" } : Jvm.MethodName)) ∈ lw_all := lw_g (lw_at lw_m12 183 rfl) rfl
theorem q2946 : (Jvm.Cond.selects "ExemptDeskModel" ({ cls := "ExemptDeskModel", name := "count", desc := "(I)I" } : Jvm.MethodName) ({ cls := "ExemptDeskModel", name := "count", desc := "(I)I" } : Jvm.MethodName)) ∈ lw_all := lw_g (lw_at lw_m12 184 rfl) rfl
theorem q2947 : (Jvm.Cond.code ({ cls := "ExemptDeskModel", name := "count", desc := "(I)I" } : Jvm.MethodName) prog_17_method_123_code (4 : Nat) (Option.some Jvm.ClassFile.FieldType.int)) ∈ lw_all := lw_g (lw_at lw_m12 185 rfl) rfl
theorem q2986 : (Jvm.Cond.castable "ExemptDeskModel" "java/lang/Object") ∈ lw_tbl := lw_at lw_m12 224 rfl

