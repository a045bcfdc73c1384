set_option maxRecDepth 100000
abbrev cX1_init : ByteArray := prog_1_method_4_code
def yX1_init : MethodName := ⟨RX1, "<init>", "()V"⟩
def dkwX1_init_6 : List UInt8 := [187, 0, 79, 89, 183, 0, 81, 181, 0, 82, 42, 2, 181, 0, 86, 177]
abbrev dktX1_init_6 : List UInt8 := dkwX1_init_6 ++ []
def dkwX1_init_5 : List UInt8 := [187, 0, 58, 89, 42, 183, 0, 60, 181, 0, 69, 42, 187, 0, 72, 89, 183, 0, 74, 181, 0, 75, 42]
abbrev dktX1_init_5 : List UInt8 := dkwX1_init_5 ++ dktX1_init_6
def dkwX1_init_4 : List UInt8 := [182, 0, 50, 181, 0, 54, 42, 187, 0, 58, 89, 42, 183, 0, 60, 182, 0, 61, 181, 0, 65, 42]
abbrev dktX1_init_4 : List UInt8 := dkwX1_init_4 ++ dktX1_init_5
def dkwX1_init_3 : List UInt8 := [181, 0, 34, 42, 187, 0, 38, 89, 42, 183, 0, 40, 181, 0, 43, 42, 187, 0, 47, 89, 183, 0, 49]
abbrev dktX1_init_3 : List UInt8 := dkwX1_init_3 ++ dktX1_init_4
def dkwX1_init_2 : List UInt8 := [4, 183, 0, 30, 187, 0, 28, 89, 5, 183, 0, 30, 184, 0, 18, 181, 0, 31, 42, 17, 2, 188, 188, 8]
abbrev dktX1_init_2 : List UInt8 := dkwX1_init_2 ++ dktX1_init_3
def dkwX1_init_1 : List UInt8 := [89, 5, 183, 0, 15, 184, 0, 18, 181, 0, 24, 42, 187, 0, 28, 89, 3, 183, 0, 30, 187, 0, 28, 89]
abbrev dktX1_init_1 : List UInt8 := dkwX1_init_1 ++ dktX1_init_2
def dkwX1_init_0 : List UInt8 := [42, 183, 0, 5, 42, 187, 0, 11, 89, 3, 183, 0, 15, 187, 0, 11, 89, 4, 183, 0, 15, 187, 0, 11]
abbrev dktX1_init_0 : List UInt8 := dkwX1_init_0 ++ dktX1_init_1
theorem dksX1_init_0 : cX1_init.data.toList.drop 0 = dktX1_init_0 := by decide +kernel
theorem dksX1_init_1 : cX1_init.data.toList.drop 24 = dktX1_init_1 := dk_seg dksX1_init_0 24 rfl rfl
theorem dksX1_init_2 : cX1_init.data.toList.drop 48 = dktX1_init_2 := dk_seg dksX1_init_1 24 rfl rfl
theorem dksX1_init_3 : cX1_init.data.toList.drop 72 = dktX1_init_3 := dk_seg dksX1_init_2 24 rfl rfl
theorem dksX1_init_4 : cX1_init.data.toList.drop 95 = dktX1_init_4 := dk_seg dksX1_init_3 23 rfl rfl
theorem dksX1_init_5 : cX1_init.data.toList.drop 117 = dktX1_init_5 := dk_seg dksX1_init_4 22 rfl rfl
theorem dksX1_init_6 : cX1_init.data.toList.drop 140 = dktX1_init_6 := dk_seg dksX1_init_5 23 rfl rfl
theorem dX1_init_0 : decode cX1_init 0 = .ok (.aload_n 0, 1) := dk_42 (dk_at dksX1_init_0 0 rfl rfl)
theorem dX1_init_1 : decode cX1_init 1 = .ok (.invokespecial 5, 3) := dk_183 0 5 (dk_at dksX1_init_0 1 rfl rfl)
theorem dX1_init_4 : decode cX1_init 4 = .ok (.aload_n 0, 1) := dk_42 (dk_at dksX1_init_0 4 rfl rfl)
theorem dX1_init_5 : decode cX1_init 5 = .ok (.new 11, 3) := dk_187 0 11 (dk_at dksX1_init_0 5 rfl rfl)
theorem dX1_init_8 : decode cX1_init 8 = .ok (.dup, 1) := dk_89 (dk_at dksX1_init_0 8 rfl rfl)
theorem dX1_init_9 : decode cX1_init 9 = .ok (.iconst 0, 1) := dk_3 (dk_at dksX1_init_0 9 rfl rfl)
theorem dX1_init_10 : decode cX1_init 10 = .ok (.invokespecial 15, 3) := dk_183 0 15 (dk_at dksX1_init_0 10 rfl rfl)
theorem dX1_init_13 : decode cX1_init 13 = .ok (.new 11, 3) := dk_187 0 11 (dk_at dksX1_init_0 13 rfl rfl)
theorem dX1_init_16 : decode cX1_init 16 = .ok (.dup, 1) := dk_89 (dk_at dksX1_init_0 16 rfl rfl)
theorem dX1_init_17 : decode cX1_init 17 = .ok (.iconst 1, 1) := dk_4 (dk_at dksX1_init_0 17 rfl rfl)
theorem dX1_init_18 : decode cX1_init 18 = .ok (.invokespecial 15, 3) := dk_183 0 15 (dk_at dksX1_init_0 18 rfl rfl)
theorem dX1_init_21 : decode cX1_init 21 = .ok (.new 11, 3) := dk_187 0 11 (dk_at dksX1_init_0 21 rfl rfl)
theorem dX1_init_24 : decode cX1_init 24 = .ok (.dup, 1) := dk_89 (dk_at dksX1_init_1 0 rfl rfl)
theorem dX1_init_25 : decode cX1_init 25 = .ok (.iconst 2, 1) := dk_5 (dk_at dksX1_init_1 1 rfl rfl)
theorem dX1_init_26 : decode cX1_init 26 = .ok (.invokespecial 15, 3) := dk_183 0 15 (dk_at dksX1_init_1 2 rfl rfl)
theorem dX1_init_29 : decode cX1_init 29 = .ok (.invokestatic 18, 3) := dk_184 0 18 (dk_at dksX1_init_1 5 rfl rfl)
theorem dX1_init_32 : decode cX1_init 32 = .ok (.putfield 24, 3) := dk_181 0 24 (dk_at dksX1_init_1 8 rfl rfl)
theorem dX1_init_35 : decode cX1_init 35 = .ok (.aload_n 0, 1) := dk_42 (dk_at dksX1_init_1 11 rfl rfl)
theorem dX1_init_36 : decode cX1_init 36 = .ok (.new 28, 3) := dk_187 0 28 (dk_at dksX1_init_1 12 rfl rfl)
theorem dX1_init_39 : decode cX1_init 39 = .ok (.dup, 1) := dk_89 (dk_at dksX1_init_1 15 rfl rfl)
theorem dX1_init_40 : decode cX1_init 40 = .ok (.iconst 0, 1) := dk_3 (dk_at dksX1_init_1 16 rfl rfl)
theorem dX1_init_41 : decode cX1_init 41 = .ok (.invokespecial 30, 3) := dk_183 0 30 (dk_at dksX1_init_1 17 rfl rfl)
theorem dX1_init_44 : decode cX1_init 44 = .ok (.new 28, 3) := dk_187 0 28 (dk_at dksX1_init_1 20 rfl rfl)
theorem dX1_init_47 : decode cX1_init 47 = .ok (.dup, 1) := dk_89 (dk_at dksX1_init_1 23 rfl rfl)
theorem dX1_init_48 : decode cX1_init 48 = .ok (.iconst 1, 1) := dk_4 (dk_at dksX1_init_2 0 rfl rfl)
theorem dX1_init_49 : decode cX1_init 49 = .ok (.invokespecial 30, 3) := dk_183 0 30 (dk_at dksX1_init_2 1 rfl rfl)
theorem dX1_init_52 : decode cX1_init 52 = .ok (.new 28, 3) := dk_187 0 28 (dk_at dksX1_init_2 4 rfl rfl)
theorem dX1_init_55 : decode cX1_init 55 = .ok (.dup, 1) := dk_89 (dk_at dksX1_init_2 7 rfl rfl)
theorem dX1_init_56 : decode cX1_init 56 = .ok (.iconst 2, 1) := dk_5 (dk_at dksX1_init_2 8 rfl rfl)
theorem dX1_init_57 : decode cX1_init 57 = .ok (.invokespecial 30, 3) := dk_183 0 30 (dk_at dksX1_init_2 9 rfl rfl)
theorem dX1_init_60 : decode cX1_init 60 = .ok (.invokestatic 18, 3) := dk_184 0 18 (dk_at dksX1_init_2 12 rfl rfl)
theorem dX1_init_63 : decode cX1_init 63 = .ok (.putfield 31, 3) := dk_181 0 31 (dk_at dksX1_init_2 15 rfl rfl)
theorem dX1_init_66 : decode cX1_init 66 = .ok (.aload_n 0, 1) := dk_42 (dk_at dksX1_init_2 18 rfl rfl)
theorem dX1_init_67 : decode cX1_init 67 = .ok (.sipush 700, 3) := dk_17 2 188 (dk_at dksX1_init_2 19 rfl rfl)
theorem dX1_init_70 : decode cX1_init 70 = .ok (.newarray .byte, 2) := dk_188_8 (dk_at dksX1_init_2 22 rfl rfl)
theorem dX1_init_72 : decode cX1_init 72 = .ok (.putfield 34, 3) := dk_181 0 34 (dk_at dksX1_init_3 0 rfl rfl)
theorem dX1_init_75 : decode cX1_init 75 = .ok (.aload_n 0, 1) := dk_42 (dk_at dksX1_init_3 3 rfl rfl)
theorem dX1_init_76 : decode cX1_init 76 = .ok (.new 38, 3) := dk_187 0 38 (dk_at dksX1_init_3 4 rfl rfl)
theorem dX1_init_79 : decode cX1_init 79 = .ok (.dup, 1) := dk_89 (dk_at dksX1_init_3 7 rfl rfl)
theorem dX1_init_80 : decode cX1_init 80 = .ok (.aload_n 0, 1) := dk_42 (dk_at dksX1_init_3 8 rfl rfl)
theorem dX1_init_81 : decode cX1_init 81 = .ok (.invokespecial 40, 3) := dk_183 0 40 (dk_at dksX1_init_3 9 rfl rfl)
theorem dX1_init_84 : decode cX1_init 84 = .ok (.putfield 43, 3) := dk_181 0 43 (dk_at dksX1_init_3 12 rfl rfl)
theorem dX1_init_87 : decode cX1_init 87 = .ok (.aload_n 0, 1) := dk_42 (dk_at dksX1_init_3 15 rfl rfl)
theorem dX1_init_88 : decode cX1_init 88 = .ok (.new 47, 3) := dk_187 0 47 (dk_at dksX1_init_3 16 rfl rfl)
theorem dX1_init_91 : decode cX1_init 91 = .ok (.dup, 1) := dk_89 (dk_at dksX1_init_3 19 rfl rfl)
theorem dX1_init_92 : decode cX1_init 92 = .ok (.invokespecial 49, 3) := dk_183 0 49 (dk_at dksX1_init_3 20 rfl rfl)
theorem dX1_init_95 : decode cX1_init 95 = .ok (.invokevirtual 50, 3) := dk_182 0 50 (dk_at dksX1_init_4 0 rfl rfl)
theorem dX1_init_98 : decode cX1_init 98 = .ok (.putfield 54, 3) := dk_181 0 54 (dk_at dksX1_init_4 3 rfl rfl)
theorem dX1_init_101 : decode cX1_init 101 = .ok (.aload_n 0, 1) := dk_42 (dk_at dksX1_init_4 6 rfl rfl)
theorem dX1_init_102 : decode cX1_init 102 = .ok (.new 58, 3) := dk_187 0 58 (dk_at dksX1_init_4 7 rfl rfl)
theorem dX1_init_105 : decode cX1_init 105 = .ok (.dup, 1) := dk_89 (dk_at dksX1_init_4 10 rfl rfl)
theorem dX1_init_106 : decode cX1_init 106 = .ok (.aload_n 0, 1) := dk_42 (dk_at dksX1_init_4 11 rfl rfl)
theorem dX1_init_107 : decode cX1_init 107 = .ok (.invokespecial 60, 3) := dk_183 0 60 (dk_at dksX1_init_4 12 rfl rfl)
theorem dX1_init_110 : decode cX1_init 110 = .ok (.invokevirtual 61, 3) := dk_182 0 61 (dk_at dksX1_init_4 15 rfl rfl)
theorem dX1_init_113 : decode cX1_init 113 = .ok (.putfield 65, 3) := dk_181 0 65 (dk_at dksX1_init_4 18 rfl rfl)
theorem dX1_init_116 : decode cX1_init 116 = .ok (.aload_n 0, 1) := dk_42 (dk_at dksX1_init_4 21 rfl rfl)
theorem dX1_init_117 : decode cX1_init 117 = .ok (.new 58, 3) := dk_187 0 58 (dk_at dksX1_init_5 0 rfl rfl)
theorem dX1_init_120 : decode cX1_init 120 = .ok (.dup, 1) := dk_89 (dk_at dksX1_init_5 3 rfl rfl)
theorem dX1_init_121 : decode cX1_init 121 = .ok (.aload_n 0, 1) := dk_42 (dk_at dksX1_init_5 4 rfl rfl)
theorem dX1_init_122 : decode cX1_init 122 = .ok (.invokespecial 60, 3) := dk_183 0 60 (dk_at dksX1_init_5 5 rfl rfl)
theorem dX1_init_125 : decode cX1_init 125 = .ok (.putfield 69, 3) := dk_181 0 69 (dk_at dksX1_init_5 8 rfl rfl)
theorem dX1_init_128 : decode cX1_init 128 = .ok (.aload_n 0, 1) := dk_42 (dk_at dksX1_init_5 11 rfl rfl)
theorem dX1_init_129 : decode cX1_init 129 = .ok (.new 72, 3) := dk_187 0 72 (dk_at dksX1_init_5 12 rfl rfl)
theorem dX1_init_132 : decode cX1_init 132 = .ok (.dup, 1) := dk_89 (dk_at dksX1_init_5 15 rfl rfl)
theorem dX1_init_133 : decode cX1_init 133 = .ok (.invokespecial 74, 3) := dk_183 0 74 (dk_at dksX1_init_5 16 rfl rfl)
theorem dX1_init_136 : decode cX1_init 136 = .ok (.putfield 75, 3) := dk_181 0 75 (dk_at dksX1_init_5 19 rfl rfl)
theorem dX1_init_139 : decode cX1_init 139 = .ok (.aload_n 0, 1) := dk_42 (dk_at dksX1_init_5 22 rfl rfl)
theorem dX1_init_140 : decode cX1_init 140 = .ok (.new 79, 3) := dk_187 0 79 (dk_at dksX1_init_6 0 rfl rfl)
theorem dX1_init_143 : decode cX1_init 143 = .ok (.dup, 1) := dk_89 (dk_at dksX1_init_6 3 rfl rfl)
theorem dX1_init_144 : decode cX1_init 144 = .ok (.invokespecial 81, 3) := dk_183 0 81 (dk_at dksX1_init_6 4 rfl rfl)
theorem dX1_init_147 : decode cX1_init 147 = .ok (.putfield 82, 3) := dk_181 0 82 (dk_at dksX1_init_6 7 rfl rfl)
theorem dX1_init_150 : decode cX1_init 150 = .ok (.aload_n 0, 1) := dk_42 (dk_at dksX1_init_6 10 rfl rfl)
theorem dX1_init_151 : decode cX1_init 151 = .ok (.iconst (-1), 1) := dk_2 (dk_at dksX1_init_6 11 rfl rfl)
theorem dX1_init_152 : decode cX1_init 152 = .ok (.putfield 86, 3) := dk_181 0 86 (dk_at dksX1_init_6 12 rfl rfl)
theorem dX1_init_155 : decode cX1_init 155 = .ok (.return_, 1) := dk_177 (dk_at dksX1_init_6 15 rfl rfl)
abbrev cX1_feed : ByteArray := prog_1_method_5_code
def yX1_feed : MethodName := ⟨RX1, "feed", "(IIIII)I"⟩
def dkwX1_feed_2 : List UInt8 := [172]
abbrev dktX1_feed_2 : List UInt8 := dkwX1_feed_2 ++ []
def dkwX1_feed_1 : List UInt8 := [182, 0, 93, 42, 29, 182, 0, 93, 42, 21, 4, 182, 0, 93, 42, 21, 5, 182, 0, 93, 42, 180, 0, 90]
abbrev dktX1_feed_1 : List UInt8 := dkwX1_feed_1 ++ dktX1_feed_2
def dkwX1_feed_0 : List UInt8 := [42, 180, 0, 90, 16, 20, 96, 17, 2, 188, 164, 0, 5, 2, 172, 42, 27, 182, 0, 93, 42, 28]
abbrev dktX1_feed_0 : List UInt8 := dkwX1_feed_0 ++ dktX1_feed_1
theorem dksX1_feed_0 : cX1_feed.data.toList.drop 0 = dktX1_feed_0 := by decide +kernel
theorem dksX1_feed_1 : cX1_feed.data.toList.drop 22 = dktX1_feed_1 := dk_seg dksX1_feed_0 22 rfl rfl
theorem dksX1_feed_2 : cX1_feed.data.toList.drop 46 = dktX1_feed_2 := dk_seg dksX1_feed_1 24 rfl rfl
theorem dX1_feed_0 : decode cX1_feed 0 = .ok (.aload_n 0, 1) := dk_42 (dk_at dksX1_feed_0 0 rfl rfl)
theorem dX1_feed_1 : decode cX1_feed 1 = .ok (.getfield 90, 3) := dk_180 0 90 (dk_at dksX1_feed_0 1 rfl rfl)
theorem dX1_feed_4 : decode cX1_feed 4 = .ok (.bipush 20, 2) := dk_16 20 (dk_at dksX1_feed_0 4 rfl rfl)
theorem dX1_feed_6 : decode cX1_feed 6 = .ok (.iadd, 1) := dk_96 (dk_at dksX1_feed_0 6 rfl rfl)
theorem dX1_feed_7 : decode cX1_feed 7 = .ok (.sipush 700, 3) := dk_17 2 188 (dk_at dksX1_feed_0 7 rfl rfl)
theorem dX1_feed_10 : decode cX1_feed 10 = .ok (.if_icmp .le 5, 3) := dk_164 0 5 (dk_at dksX1_feed_0 10 rfl rfl)
theorem dX1_feed_13 : decode cX1_feed 13 = .ok (.iconst (-1), 1) := dk_2 (dk_at dksX1_feed_0 13 rfl rfl)
theorem dX1_feed_14 : decode cX1_feed 14 = .ok (.ireturn, 1) := dk_172 (dk_at dksX1_feed_0 14 rfl rfl)
theorem dX1_feed_15 : decode cX1_feed 15 = .ok (.aload_n 0, 1) := dk_42 (dk_at dksX1_feed_0 15 rfl rfl)
theorem dX1_feed_16 : decode cX1_feed 16 = .ok (.iload_n 1, 1) := dk_27 (dk_at dksX1_feed_0 16 rfl rfl)
theorem dX1_feed_17 : decode cX1_feed 17 = .ok (.invokevirtual 93, 3) := dk_182 0 93 (dk_at dksX1_feed_0 17 rfl rfl)
theorem dX1_feed_20 : decode cX1_feed 20 = .ok (.aload_n 0, 1) := dk_42 (dk_at dksX1_feed_0 20 rfl rfl)
theorem dX1_feed_21 : decode cX1_feed 21 = .ok (.iload_n 2, 1) := dk_28 (dk_at dksX1_feed_0 21 rfl rfl)
theorem dX1_feed_22 : decode cX1_feed 22 = .ok (.invokevirtual 93, 3) := dk_182 0 93 (dk_at dksX1_feed_1 0 rfl rfl)
theorem dX1_feed_25 : decode cX1_feed 25 = .ok (.aload_n 0, 1) := dk_42 (dk_at dksX1_feed_1 3 rfl rfl)
theorem dX1_feed_26 : decode cX1_feed 26 = .ok (.iload_n 3, 1) := dk_29 (dk_at dksX1_feed_1 4 rfl rfl)
theorem dX1_feed_27 : decode cX1_feed 27 = .ok (.invokevirtual 93, 3) := dk_182 0 93 (dk_at dksX1_feed_1 5 rfl rfl)
theorem dX1_feed_30 : decode cX1_feed 30 = .ok (.aload_n 0, 1) := dk_42 (dk_at dksX1_feed_1 8 rfl rfl)
theorem dX1_feed_31 : decode cX1_feed 31 = .ok (.iload 4, 2) := dk_21 4 (dk_at dksX1_feed_1 9 rfl rfl)
theorem dX1_feed_33 : decode cX1_feed 33 = .ok (.invokevirtual 93, 3) := dk_182 0 93 (dk_at dksX1_feed_1 11 rfl rfl)
theorem dX1_feed_36 : decode cX1_feed 36 = .ok (.aload_n 0, 1) := dk_42 (dk_at dksX1_feed_1 14 rfl rfl)
theorem dX1_feed_37 : decode cX1_feed 37 = .ok (.iload 5, 2) := dk_21 5 (dk_at dksX1_feed_1 15 rfl rfl)
theorem dX1_feed_39 : decode cX1_feed 39 = .ok (.invokevirtual 93, 3) := dk_182 0 93 (dk_at dksX1_feed_1 17 rfl rfl)
theorem dX1_feed_42 : decode cX1_feed 42 = .ok (.aload_n 0, 1) := dk_42 (dk_at dksX1_feed_1 20 rfl rfl)
theorem dX1_feed_43 : decode cX1_feed 43 = .ok (.getfield 90, 3) := dk_180 0 90 (dk_at dksX1_feed_1 21 rfl rfl)
theorem dX1_feed_46 : decode cX1_feed 46 = .ok (.ireturn, 1) := dk_172 (dk_at dksX1_feed_2 0 rfl rfl)
abbrev cX1_put4 : ByteArray := prog_1_method_6_code
def yX1_put4 : MethodName := ⟨RX1, "put4", "(I)V"⟩
def dkwX1_put4_1 : List UInt8 := [180, 0, 90, 4, 96, 181, 0, 90, 132, 2, 248, 167, 255, 226, 177]
abbrev dktX1_put4_1 : List UInt8 := dkwX1_put4_1 ++ []
def dkwX1_put4_0 : List UInt8 := [16, 24, 61, 28, 155, 0, 32, 42, 180, 0, 34, 42, 180, 0, 90, 27, 28, 122, 145, 84, 42, 89]
abbrev dktX1_put4_0 : List UInt8 := dkwX1_put4_0 ++ dktX1_put4_1
theorem dksX1_put4_0 : cX1_put4.data.toList.drop 0 = dktX1_put4_0 := by decide +kernel
theorem dksX1_put4_1 : cX1_put4.data.toList.drop 22 = dktX1_put4_1 := dk_seg dksX1_put4_0 22 rfl rfl
theorem dX1_put4_0 : decode cX1_put4 0 = .ok (.bipush 24, 2) := dk_16 24 (dk_at dksX1_put4_0 0 rfl rfl)
theorem dX1_put4_2 : decode cX1_put4 2 = .ok (.istore_n 2, 1) := dk_61 (dk_at dksX1_put4_0 2 rfl rfl)
theorem dX1_put4_3 : decode cX1_put4 3 = .ok (.iload_n 2, 1) := dk_28 (dk_at dksX1_put4_0 3 rfl rfl)
theorem dX1_put4_4 : decode cX1_put4 4 = .ok (.ifCond .lt 32, 3) := dk_155 0 32 (dk_at dksX1_put4_0 4 rfl rfl)
theorem dX1_put4_7 : decode cX1_put4 7 = .ok (.aload_n 0, 1) := dk_42 (dk_at dksX1_put4_0 7 rfl rfl)
theorem dX1_put4_8 : decode cX1_put4 8 = .ok (.getfield 34, 3) := dk_180 0 34 (dk_at dksX1_put4_0 8 rfl rfl)
theorem dX1_put4_11 : decode cX1_put4 11 = .ok (.aload_n 0, 1) := dk_42 (dk_at dksX1_put4_0 11 rfl rfl)
theorem dX1_put4_12 : decode cX1_put4 12 = .ok (.getfield 90, 3) := dk_180 0 90 (dk_at dksX1_put4_0 12 rfl rfl)
theorem dX1_put4_15 : decode cX1_put4 15 = .ok (.iload_n 1, 1) := dk_27 (dk_at dksX1_put4_0 15 rfl rfl)
theorem dX1_put4_16 : decode cX1_put4 16 = .ok (.iload_n 2, 1) := dk_28 (dk_at dksX1_put4_0 16 rfl rfl)
theorem dX1_put4_17 : decode cX1_put4 17 = .ok (.ishr, 1) := dk_122 (dk_at dksX1_put4_0 17 rfl rfl)
theorem dX1_put4_18 : decode cX1_put4 18 = .ok (.i2b, 1) := dk_145 (dk_at dksX1_put4_0 18 rfl rfl)
theorem dX1_put4_19 : decode cX1_put4 19 = .ok (.bastore, 1) := dk_84 (dk_at dksX1_put4_0 19 rfl rfl)
theorem dX1_put4_20 : decode cX1_put4 20 = .ok (.aload_n 0, 1) := dk_42 (dk_at dksX1_put4_0 20 rfl rfl)
theorem dX1_put4_21 : decode cX1_put4 21 = .ok (.dup, 1) := dk_89 (dk_at dksX1_put4_0 21 rfl rfl)
theorem dX1_put4_22 : decode cX1_put4 22 = .ok (.getfield 90, 3) := dk_180 0 90 (dk_at dksX1_put4_1 0 rfl rfl)
theorem dX1_put4_25 : decode cX1_put4 25 = .ok (.iconst 1, 1) := dk_4 (dk_at dksX1_put4_1 3 rfl rfl)
theorem dX1_put4_26 : decode cX1_put4 26 = .ok (.iadd, 1) := dk_96 (dk_at dksX1_put4_1 4 rfl rfl)
theorem dX1_put4_27 : decode cX1_put4 27 = .ok (.putfield 90, 3) := dk_181 0 90 (dk_at dksX1_put4_1 5 rfl rfl)
theorem dX1_put4_30 : decode cX1_put4 30 = .ok (.iinc 2 (-8), 3) := dk_132 2 248 (dk_at dksX1_put4_1 8 rfl rfl)
theorem dX1_put4_33 : decode cX1_put4 33 = .ok (.goto (-30), 3) := dk_167 255 226 (dk_at dksX1_put4_1 11 rfl rfl)
theorem dX1_put4_36 : decode cX1_put4 36 = .ok (.return_, 1) := dk_177 (dk_at dksX1_put4_1 14 rfl rfl)
abbrev cX1_text : ByteArray := prog_1_method_7_code
def yX1_text : MethodName := ⟨RX1, "text", "(I)I"⟩
def dkwX1_text_4 : List UInt8 := [180, 0, 54, 180, 0, 121, 172]
abbrev dktX1_text_4 : List UInt8 := dkwX1_text_4 ++ []
def dkwX1_text_3 : List UInt8 := [183, 0, 60, 182, 0, 61, 181, 0, 65, 42, 180, 0, 75, 182, 0, 115, 42, 1, 181, 0, 118, 42]
abbrev dktX1_text_3 : List UInt8 := dkwX1_text_3 ++ dktX1_text_4
def dkwX1_text_2 : List UInt8 := [42, 44, 180, 0, 109, 181, 0, 100, 42, 44, 180, 0, 112, 181, 0, 86, 2, 172, 42, 187, 0, 58, 89, 42]
abbrev dktX1_text_2 : List UInt8 := dkwX1_text_2 ++ dktX1_text_3
def dkwX1_text_1 : List UInt8 := [181, 0, 100, 42, 2, 181, 0, 86, 42, 42, 180, 0, 43, 27, 182, 0, 103, 181, 0, 54, 167, 0, 22, 77]
abbrev dktX1_text_1 : List UInt8 := dkwX1_text_1 ++ dktX1_text_2
def dkwX1_text_0 : List UInt8 := [27, 133, 9, 42, 180, 0, 90, 133, 184, 0, 96, 154, 0, 6, 16, 254, 172, 42, 3, 181, 0, 90, 42, 3]
abbrev dktX1_text_0 : List UInt8 := dkwX1_text_0 ++ dktX1_text_1
theorem dksX1_text_0 : cX1_text.data.toList.drop 0 = dktX1_text_0 := by decide +kernel
theorem dksX1_text_1 : cX1_text.data.toList.drop 24 = dktX1_text_1 := dk_seg dksX1_text_0 24 rfl rfl
theorem dksX1_text_2 : cX1_text.data.toList.drop 48 = dktX1_text_2 := dk_seg dksX1_text_1 24 rfl rfl
theorem dksX1_text_3 : cX1_text.data.toList.drop 72 = dktX1_text_3 := dk_seg dksX1_text_2 24 rfl rfl
theorem dksX1_text_4 : cX1_text.data.toList.drop 94 = dktX1_text_4 := dk_seg dksX1_text_3 22 rfl rfl
theorem dX1_text_0 : decode cX1_text 0 = .ok (.iload_n 1, 1) := dk_27 (dk_at dksX1_text_0 0 rfl rfl)
theorem dX1_text_1 : decode cX1_text 1 = .ok (.i2l, 1) := dk_133 (dk_at dksX1_text_0 1 rfl rfl)
theorem dX1_text_2 : decode cX1_text 2 = .ok (.lconst 0, 1) := dk_9 (dk_at dksX1_text_0 2 rfl rfl)
theorem dX1_text_3 : decode cX1_text 3 = .ok (.aload_n 0, 1) := dk_42 (dk_at dksX1_text_0 3 rfl rfl)
theorem dX1_text_4 : decode cX1_text 4 = .ok (.getfield 90, 3) := dk_180 0 90 (dk_at dksX1_text_0 4 rfl rfl)
theorem dX1_text_7 : decode cX1_text 7 = .ok (.i2l, 1) := dk_133 (dk_at dksX1_text_0 7 rfl rfl)
theorem dX1_text_8 : decode cX1_text 8 = .ok (.invokestatic 96, 3) := dk_184 0 96 (dk_at dksX1_text_0 8 rfl rfl)
theorem dX1_text_11 : decode cX1_text 11 = .ok (.ifCond .ne 6, 3) := dk_154 0 6 (dk_at dksX1_text_0 11 rfl rfl)
theorem dX1_text_14 : decode cX1_text 14 = .ok (.bipush (-2), 2) := dk_16 254 (dk_at dksX1_text_0 14 rfl rfl)
theorem dX1_text_16 : decode cX1_text 16 = .ok (.ireturn, 1) := dk_172 (dk_at dksX1_text_0 16 rfl rfl)
theorem dX1_text_17 : decode cX1_text 17 = .ok (.aload_n 0, 1) := dk_42 (dk_at dksX1_text_0 17 rfl rfl)
theorem dX1_text_18 : decode cX1_text 18 = .ok (.iconst 0, 1) := dk_3 (dk_at dksX1_text_0 18 rfl rfl)
theorem dX1_text_19 : decode cX1_text 19 = .ok (.putfield 90, 3) := dk_181 0 90 (dk_at dksX1_text_0 19 rfl rfl)
theorem dX1_text_22 : decode cX1_text 22 = .ok (.aload_n 0, 1) := dk_42 (dk_at dksX1_text_0 22 rfl rfl)
theorem dX1_text_23 : decode cX1_text 23 = .ok (.iconst 0, 1) := dk_3 (dk_at dksX1_text_0 23 rfl rfl)
theorem dX1_text_24 : decode cX1_text 24 = .ok (.putfield 100, 3) := dk_181 0 100 (dk_at dksX1_text_1 0 rfl rfl)
theorem dX1_text_27 : decode cX1_text 27 = .ok (.aload_n 0, 1) := dk_42 (dk_at dksX1_text_1 3 rfl rfl)
theorem dX1_text_28 : decode cX1_text 28 = .ok (.iconst (-1), 1) := dk_2 (dk_at dksX1_text_1 4 rfl rfl)
theorem dX1_text_29 : decode cX1_text 29 = .ok (.putfield 86, 3) := dk_181 0 86 (dk_at dksX1_text_1 5 rfl rfl)
theorem dX1_text_32 : decode cX1_text 32 = .ok (.aload_n 0, 1) := dk_42 (dk_at dksX1_text_1 8 rfl rfl)
theorem dX1_text_33 : decode cX1_text 33 = .ok (.aload_n 0, 1) := dk_42 (dk_at dksX1_text_1 9 rfl rfl)
theorem dX1_text_34 : decode cX1_text 34 = .ok (.getfield 43, 3) := dk_180 0 43 (dk_at dksX1_text_1 10 rfl rfl)
theorem dX1_text_37 : decode cX1_text 37 = .ok (.iload_n 1, 1) := dk_27 (dk_at dksX1_text_1 13 rfl rfl)
theorem dX1_text_38 : decode cX1_text 38 = .ok (.invokevirtual 103, 3) := dk_182 0 103 (dk_at dksX1_text_1 14 rfl rfl)
theorem dX1_text_41 : decode cX1_text 41 = .ok (.putfield 54, 3) := dk_181 0 54 (dk_at dksX1_text_1 17 rfl rfl)
theorem dX1_text_44 : decode cX1_text 44 = .ok (.goto 22, 3) := dk_167 0 22 (dk_at dksX1_text_1 20 rfl rfl)
theorem dX1_text_47 : decode cX1_text 47 = .ok (.astore_n 2, 1) := dk_77 (dk_at dksX1_text_1 23 rfl rfl)
theorem dX1_text_48 : decode cX1_text 48 = .ok (.aload_n 0, 1) := dk_42 (dk_at dksX1_text_2 0 rfl rfl)
theorem dX1_text_49 : decode cX1_text 49 = .ok (.aload_n 2, 1) := dk_44 (dk_at dksX1_text_2 1 rfl rfl)
theorem dX1_text_50 : decode cX1_text 50 = .ok (.getfield 109, 3) := dk_180 0 109 (dk_at dksX1_text_2 2 rfl rfl)
theorem dX1_text_53 : decode cX1_text 53 = .ok (.putfield 100, 3) := dk_181 0 100 (dk_at dksX1_text_2 5 rfl rfl)
theorem dX1_text_56 : decode cX1_text 56 = .ok (.aload_n 0, 1) := dk_42 (dk_at dksX1_text_2 8 rfl rfl)
theorem dX1_text_57 : decode cX1_text 57 = .ok (.aload_n 2, 1) := dk_44 (dk_at dksX1_text_2 9 rfl rfl)
theorem dX1_text_58 : decode cX1_text 58 = .ok (.getfield 112, 3) := dk_180 0 112 (dk_at dksX1_text_2 10 rfl rfl)
theorem dX1_text_61 : decode cX1_text 61 = .ok (.putfield 86, 3) := dk_181 0 86 (dk_at dksX1_text_2 13 rfl rfl)
theorem dX1_text_64 : decode cX1_text 64 = .ok (.iconst (-1), 1) := dk_2 (dk_at dksX1_text_2 16 rfl rfl)
theorem dX1_text_65 : decode cX1_text 65 = .ok (.ireturn, 1) := dk_172 (dk_at dksX1_text_2 17 rfl rfl)
theorem dX1_text_66 : decode cX1_text 66 = .ok (.aload_n 0, 1) := dk_42 (dk_at dksX1_text_2 18 rfl rfl)
theorem dX1_text_67 : decode cX1_text 67 = .ok (.new 58, 3) := dk_187 0 58 (dk_at dksX1_text_2 19 rfl rfl)
theorem dX1_text_70 : decode cX1_text 70 = .ok (.dup, 1) := dk_89 (dk_at dksX1_text_2 22 rfl rfl)
theorem dX1_text_71 : decode cX1_text 71 = .ok (.aload_n 0, 1) := dk_42 (dk_at dksX1_text_2 23 rfl rfl)
theorem dX1_text_72 : decode cX1_text 72 = .ok (.invokespecial 60, 3) := dk_183 0 60 (dk_at dksX1_text_3 0 rfl rfl)
theorem dX1_text_75 : decode cX1_text 75 = .ok (.invokevirtual 61, 3) := dk_182 0 61 (dk_at dksX1_text_3 3 rfl rfl)
theorem dX1_text_78 : decode cX1_text 78 = .ok (.putfield 65, 3) := dk_181 0 65 (dk_at dksX1_text_3 6 rfl rfl)
theorem dX1_text_81 : decode cX1_text 81 = .ok (.aload_n 0, 1) := dk_42 (dk_at dksX1_text_3 9 rfl rfl)
theorem dX1_text_82 : decode cX1_text 82 = .ok (.getfield 75, 3) := dk_180 0 75 (dk_at dksX1_text_3 10 rfl rfl)
theorem dX1_text_85 : decode cX1_text 85 = .ok (.invokevirtual 115, 3) := dk_182 0 115 (dk_at dksX1_text_3 13 rfl rfl)
theorem dX1_text_88 : decode cX1_text 88 = .ok (.aload_n 0, 1) := dk_42 (dk_at dksX1_text_3 16 rfl rfl)
theorem dX1_text_89 : decode cX1_text 89 = .ok (.aconst_null, 1) := dk_1 (dk_at dksX1_text_3 17 rfl rfl)
theorem dX1_text_90 : decode cX1_text 90 = .ok (.putfield 118, 3) := dk_181 0 118 (dk_at dksX1_text_3 18 rfl rfl)
theorem dX1_text_93 : decode cX1_text 93 = .ok (.aload_n 0, 1) := dk_42 (dk_at dksX1_text_3 21 rfl rfl)
theorem dX1_text_94 : decode cX1_text 94 = .ok (.getfield 54, 3) := dk_180 0 54 (dk_at dksX1_text_4 0 rfl rfl)
theorem dX1_text_97 : decode cX1_text 97 = .ok (.getfield 121, 3) := dk_180 0 121 (dk_at dksX1_text_4 3 rfl rfl)
theorem dX1_text_100 : decode cX1_text 100 = .ok (.ireturn, 1) := dk_172 (dk_at dksX1_text_4 6 rfl rfl)
abbrev cX1_in : ByteArray := prog_1_method_1_code
def yX1_in : MethodName := ⟨RX1, "in", "(JJJ)Z"⟩
def dkwX1_in_0 : List UInt8 := [30, 32, 148, 155, 0, 14, 30, 22, 4, 148, 157, 0, 7, 4, 167, 0, 4, 3, 172]
abbrev dktX1_in_0 : List UInt8 := dkwX1_in_0 ++ []
theorem dksX1_in_0 : cX1_in.data.toList.drop 0 = dktX1_in_0 := by decide +kernel
theorem dX1_in_0 : decode cX1_in 0 = .ok (.lload_n 0, 1) := dk_30 (dk_at dksX1_in_0 0 rfl rfl)
theorem dX1_in_1 : decode cX1_in 1 = .ok (.lload_n 2, 1) := dk_32 (dk_at dksX1_in_0 1 rfl rfl)
theorem dX1_in_2 : decode cX1_in 2 = .ok (.lcmp, 1) := dk_148 (dk_at dksX1_in_0 2 rfl rfl)
theorem dX1_in_3 : decode cX1_in 3 = .ok (.ifCond .lt 14, 3) := dk_155 0 14 (dk_at dksX1_in_0 3 rfl rfl)
theorem dX1_in_6 : decode cX1_in 6 = .ok (.lload_n 0, 1) := dk_30 (dk_at dksX1_in_0 6 rfl rfl)
theorem dX1_in_7 : decode cX1_in 7 = .ok (.lload 4, 2) := dk_22 4 (dk_at dksX1_in_0 7 rfl rfl)
theorem dX1_in_9 : decode cX1_in 9 = .ok (.lcmp, 1) := dk_148 (dk_at dksX1_in_0 9 rfl rfl)
theorem dX1_in_10 : decode cX1_in 10 = .ok (.ifCond .gt 7, 3) := dk_157 0 7 (dk_at dksX1_in_0 10 rfl rfl)
theorem dX1_in_13 : decode cX1_in 13 = .ok (.iconst 1, 1) := dk_4 (dk_at dksX1_in_0 13 rfl rfl)
theorem dX1_in_14 : decode cX1_in 14 = .ok (.goto 4, 3) := dk_167 0 4 (dk_at dksX1_in_0 14 rfl rfl)
theorem dX1_in_17 : decode cX1_in 17 = .ok (.iconst 0, 1) := dk_3 (dk_at dksX1_in_0 17 rfl rfl)
theorem dX1_in_18 : decode cX1_in 18 = .ok (.ireturn, 1) := dk_172 (dk_at dksX1_in_0 18 rfl rfl)
abbrev cX1_isIntervals : ByteArray := prog_1_method_2_code
def yX1_isIntervals : MethodName := ⟨RX1, "isIntervals", "(I)Z"⟩
def dkwX1_isIntervals_0 : List UInt8 := [26, 8, 159, 0, 9, 26, 16, 10, 160, 0, 7, 4, 167, 0, 4, 3, 172]
abbrev dktX1_isIntervals_0 : List UInt8 := dkwX1_isIntervals_0 ++ []
theorem dksX1_isIntervals_0 : cX1_isIntervals.data.toList.drop 0 = dktX1_isIntervals_0 := by decide +kernel
theorem dX1_isIntervals_0 : decode cX1_isIntervals 0 = .ok (.iload_n 0, 1) := dk_26 (dk_at dksX1_isIntervals_0 0 rfl rfl)
theorem dX1_isIntervals_1 : decode cX1_isIntervals 1 = .ok (.iconst 5, 1) := dk_8 (dk_at dksX1_isIntervals_0 1 rfl rfl)
theorem dX1_isIntervals_2 : decode cX1_isIntervals 2 = .ok (.if_icmp .eq 9, 3) := dk_159 0 9 (dk_at dksX1_isIntervals_0 2 rfl rfl)
theorem dX1_isIntervals_5 : decode cX1_isIntervals 5 = .ok (.iload_n 0, 1) := dk_26 (dk_at dksX1_isIntervals_0 5 rfl rfl)
theorem dX1_isIntervals_6 : decode cX1_isIntervals 6 = .ok (.bipush 10, 2) := dk_16 10 (dk_at dksX1_isIntervals_0 6 rfl rfl)
theorem dX1_isIntervals_8 : decode cX1_isIntervals 8 = .ok (.if_icmp .ne 7, 3) := dk_160 0 7 (dk_at dksX1_isIntervals_0 8 rfl rfl)
theorem dX1_isIntervals_11 : decode cX1_isIntervals 11 = .ok (.iconst 1, 1) := dk_4 (dk_at dksX1_isIntervals_0 11 rfl rfl)
theorem dX1_isIntervals_12 : decode cX1_isIntervals 12 = .ok (.goto 4, 3) := dk_167 0 4 (dk_at dksX1_isIntervals_0 12 rfl rfl)
theorem dX1_isIntervals_15 : decode cX1_isIntervals 15 = .ok (.iconst 0, 1) := dk_3 (dk_at dksX1_isIntervals_0 15 rfl rfl)
theorem dX1_isIntervals_16 : decode cX1_isIntervals 16 = .ok (.ireturn, 1) := dk_172 (dk_at dksX1_isIntervals_0 16 rfl rfl)
abbrev cX1_fault : ByteArray := prog_1_method_8_code
def yX1_fault : MethodName := ⟨RX1, "fault", "(I)I"⟩
def dkwX1_fault_1 : List UInt8 := [172]
abbrev dktX1_fault_1 : List UInt8 := dkwX1_fault_1 ++ []
def dkwX1_fault_0 : List UInt8 := [27, 154, 0, 10, 42, 180, 0, 100, 167, 0, 16, 27, 4, 160, 0, 10, 42, 180, 0, 86, 167, 0, 4, 2]
abbrev dktX1_fault_0 : List UInt8 := dkwX1_fault_0 ++ dktX1_fault_1
theorem dksX1_fault_0 : cX1_fault.data.toList.drop 0 = dktX1_fault_0 := by decide +kernel
theorem dksX1_fault_1 : cX1_fault.data.toList.drop 24 = dktX1_fault_1 := dk_seg dksX1_fault_0 24 rfl rfl
theorem dX1_fault_0 : decode cX1_fault 0 = .ok (.iload_n 1, 1) := dk_27 (dk_at dksX1_fault_0 0 rfl rfl)
theorem dX1_fault_1 : decode cX1_fault 1 = .ok (.ifCond .ne 10, 3) := dk_154 0 10 (dk_at dksX1_fault_0 1 rfl rfl)
theorem dX1_fault_4 : decode cX1_fault 4 = .ok (.aload_n 0, 1) := dk_42 (dk_at dksX1_fault_0 4 rfl rfl)
theorem dX1_fault_5 : decode cX1_fault 5 = .ok (.getfield 100, 3) := dk_180 0 100 (dk_at dksX1_fault_0 5 rfl rfl)
theorem dX1_fault_8 : decode cX1_fault 8 = .ok (.goto 16, 3) := dk_167 0 16 (dk_at dksX1_fault_0 8 rfl rfl)
theorem dX1_fault_11 : decode cX1_fault 11 = .ok (.iload_n 1, 1) := dk_27 (dk_at dksX1_fault_0 11 rfl rfl)
theorem dX1_fault_12 : decode cX1_fault 12 = .ok (.iconst 1, 1) := dk_4 (dk_at dksX1_fault_0 12 rfl rfl)
theorem dX1_fault_13 : decode cX1_fault 13 = .ok (.if_icmp .ne 10, 3) := dk_160 0 10 (dk_at dksX1_fault_0 13 rfl rfl)
theorem dX1_fault_16 : decode cX1_fault 16 = .ok (.aload_n 0, 1) := dk_42 (dk_at dksX1_fault_0 16 rfl rfl)
theorem dX1_fault_17 : decode cX1_fault 17 = .ok (.getfield 86, 3) := dk_180 0 86 (dk_at dksX1_fault_0 17 rfl rfl)
theorem dX1_fault_20 : decode cX1_fault 20 = .ok (.goto 4, 3) := dk_167 0 4 (dk_at dksX1_fault_0 20 rfl rfl)
theorem dX1_fault_23 : decode cX1_fault 23 = .ok (.iconst (-1), 1) := dk_2 (dk_at dksX1_fault_0 23 rfl rfl)
theorem dX1_fault_24 : decode cX1_fault 24 = .ok (.ireturn, 1) := dk_172 (dk_at dksX1_fault_1 0 rfl rfl)
abbrev cX1_named : ByteArray := prog_1_method_9_code
def yX1_named : MethodName := ⟨RX1, "named", "(I)I"⟩
def dkwX1_named_0 : List UInt8 := [42, 180, 0, 54, 27, 182, 0, 124, 172]
abbrev dktX1_named_0 : List UInt8 := dkwX1_named_0 ++ []
theorem dksX1_named_0 : cX1_named.data.toList.drop 0 = dktX1_named_0 := by decide +kernel
theorem dX1_named_0 : decode cX1_named 0 = .ok (.aload_n 0, 1) := dk_42 (dk_at dksX1_named_0 0 rfl rfl)
theorem dX1_named_1 : decode cX1_named 1 = .ok (.getfield 54, 3) := dk_180 0 54 (dk_at dksX1_named_0 1 rfl rfl)
theorem dX1_named_4 : decode cX1_named 4 = .ok (.iload_n 1, 1) := dk_27 (dk_at dksX1_named_0 4 rfl rfl)
theorem dX1_named_5 : decode cX1_named 5 = .ok (.invokevirtual 124, 3) := dk_182 0 124 (dk_at dksX1_named_0 5 rfl rfl)
theorem dX1_named_8 : decode cX1_named 8 = .ok (.ireturn, 1) := dk_172 (dk_at dksX1_named_0 8 rfl rfl)
abbrev cX1_asset : ByteArray := prog_1_method_18_code
def yX1_asset : MethodName := ⟨RX1, "asset", "(II)I"⟩
def dkwX1_asset_6 : List UInt8 := [42, 180, 0, 65, 45, 182, 0, 244, 172, 2, 172]
abbrev dktX1_asset_6 : List UInt8 := dkwX1_asset_6 ++ []
def dkwX1_asset_5 : List UInt8 := [4, 167, 0, 4, 3, 172, 45, 180, 0, 151, 172, 45, 180, 0, 238, 2, 160, 0, 8, 16, 254, 167, 0, 11]
abbrev dktX1_asset_5 : List UInt8 := dkwX1_asset_5 ++ dktX1_asset_6
def dkwX1_asset_4 : List UInt8 := [180, 0, 241, 2, 160, 0, 8, 16, 254, 167, 0, 7, 45, 180, 0, 241, 172, 45, 180, 0, 145, 153, 0, 7]
abbrev dktX1_asset_4 : List UInt8 := dkwX1_asset_4 ++ dktX1_asset_5
def dkwX1_asset_3 : List UInt8 := [180, 0, 235, 172, 45, 180, 0, 238, 2, 160, 0, 8, 16, 254, 167, 0, 7, 45, 180, 0, 238, 172, 45]
abbrev dktX1_asset_3 : List UInt8 := dkwX1_asset_3 ++ dktX1_asset_4
def dkwX1_asset_2 : List UInt8 := [42, 45, 182, 0, 178, 172, 45, 180, 0, 226, 172, 45, 180, 0, 229, 172, 45, 180, 0, 232, 172, 45]
abbrev dktX1_asset_2 : List UInt8 := dkwX1_asset_2 ++ dktX1_asset_3
def dkwX1_asset_1 : List UInt8 := [170, 0, 0, 0, 0, 0, 0, 158, 0, 0, 0, 0, 0, 0, 0, 9, 0, 0, 0, 56, 0, 0, 0, 62, 0, 0, 0, 67, 0, 0, 0, 72, 0, 0, 0, 77, 0, 0, 0, 82, 0, 0, 0, 100, 0, 0, 0, 118, 0, 0, 0, 131, 0, 0, 0, 136]
abbrev dktX1_asset_1 : List UInt8 := dkwX1_asset_1 ++ dktX1_asset_2
def dkwX1_asset_0 : List UInt8 := [42, 27, 182, 0, 219, 154, 0, 5, 2, 172, 42, 180, 0, 65, 27, 182, 0, 222, 78, 28]
abbrev dktX1_asset_0 : List UInt8 := dkwX1_asset_0 ++ dktX1_asset_1
theorem dksX1_asset_0 : cX1_asset.data.toList.drop 0 = dktX1_asset_0 := by decide +kernel
theorem dksX1_asset_1 : cX1_asset.data.toList.drop 20 = dktX1_asset_1 := dk_seg dksX1_asset_0 20 rfl rfl
theorem dksX1_asset_2 : cX1_asset.data.toList.drop 76 = dktX1_asset_2 := dk_seg dksX1_asset_1 56 rfl rfl
theorem dksX1_asset_3 : cX1_asset.data.toList.drop 98 = dktX1_asset_3 := dk_seg dksX1_asset_2 22 rfl rfl
theorem dksX1_asset_4 : cX1_asset.data.toList.drop 121 = dktX1_asset_4 := dk_seg dksX1_asset_3 23 rfl rfl
theorem dksX1_asset_5 : cX1_asset.data.toList.drop 145 = dktX1_asset_5 := dk_seg dksX1_asset_4 24 rfl rfl
theorem dksX1_asset_6 : cX1_asset.data.toList.drop 169 = dktX1_asset_6 := dk_seg dksX1_asset_5 24 rfl rfl
theorem dX1_asset_0 : decode cX1_asset 0 = .ok (.aload_n 0, 1) := dk_42 (dk_at dksX1_asset_0 0 rfl rfl)
theorem dX1_asset_1 : decode cX1_asset 1 = .ok (.iload_n 1, 1) := dk_27 (dk_at dksX1_asset_0 1 rfl rfl)
theorem dX1_asset_2 : decode cX1_asset 2 = .ok (.invokevirtual 219, 3) := dk_182 0 219 (dk_at dksX1_asset_0 2 rfl rfl)
theorem dX1_asset_5 : decode cX1_asset 5 = .ok (.ifCond .ne 5, 3) := dk_154 0 5 (dk_at dksX1_asset_0 5 rfl rfl)
theorem dX1_asset_8 : decode cX1_asset 8 = .ok (.iconst (-1), 1) := dk_2 (dk_at dksX1_asset_0 8 rfl rfl)
theorem dX1_asset_9 : decode cX1_asset 9 = .ok (.ireturn, 1) := dk_172 (dk_at dksX1_asset_0 9 rfl rfl)
theorem dX1_asset_10 : decode cX1_asset 10 = .ok (.aload_n 0, 1) := dk_42 (dk_at dksX1_asset_0 10 rfl rfl)
theorem dX1_asset_11 : decode cX1_asset 11 = .ok (.getfield 65, 3) := dk_180 0 65 (dk_at dksX1_asset_0 11 rfl rfl)
theorem dX1_asset_14 : decode cX1_asset 14 = .ok (.iload_n 1, 1) := dk_27 (dk_at dksX1_asset_0 14 rfl rfl)
theorem dX1_asset_15 : decode cX1_asset 15 = .ok (.invokevirtual 222, 3) := dk_182 0 222 (dk_at dksX1_asset_0 15 rfl rfl)
theorem dX1_asset_18 : decode cX1_asset 18 = .ok (.astore_n 3, 1) := dk_78 (dk_at dksX1_asset_0 18 rfl rfl)
theorem dX1_asset_19 : decode cX1_asset 19 = .ok (.iload_n 2, 1) := dk_28 (dk_at dksX1_asset_0 19 rfl rfl)
theorem dX1_asset_20 : decode cX1_asset 20 = .ok (.tableswitch 158 0 9 #[56, 62, 67, 72, 77, 82, 100, 118, 131, 136], 56) := by decide +kernel
theorem dX1_asset_76 : decode cX1_asset 76 = .ok (.aload_n 0, 1) := dk_42 (dk_at dksX1_asset_2 0 rfl rfl)
theorem dX1_asset_77 : decode cX1_asset 77 = .ok (.aload_n 3, 1) := dk_45 (dk_at dksX1_asset_2 1 rfl rfl)
theorem dX1_asset_78 : decode cX1_asset 78 = .ok (.invokevirtual 178, 3) := dk_182 0 178 (dk_at dksX1_asset_2 2 rfl rfl)
theorem dX1_asset_81 : decode cX1_asset 81 = .ok (.ireturn, 1) := dk_172 (dk_at dksX1_asset_2 5 rfl rfl)
theorem dX1_asset_82 : decode cX1_asset 82 = .ok (.aload_n 3, 1) := dk_45 (dk_at dksX1_asset_2 6 rfl rfl)
theorem dX1_asset_83 : decode cX1_asset 83 = .ok (.getfield 226, 3) := dk_180 0 226 (dk_at dksX1_asset_2 7 rfl rfl)
theorem dX1_asset_86 : decode cX1_asset 86 = .ok (.ireturn, 1) := dk_172 (dk_at dksX1_asset_2 10 rfl rfl)
theorem dX1_asset_87 : decode cX1_asset 87 = .ok (.aload_n 3, 1) := dk_45 (dk_at dksX1_asset_2 11 rfl rfl)
theorem dX1_asset_88 : decode cX1_asset 88 = .ok (.getfield 229, 3) := dk_180 0 229 (dk_at dksX1_asset_2 12 rfl rfl)
theorem dX1_asset_91 : decode cX1_asset 91 = .ok (.ireturn, 1) := dk_172 (dk_at dksX1_asset_2 15 rfl rfl)
theorem dX1_asset_92 : decode cX1_asset 92 = .ok (.aload_n 3, 1) := dk_45 (dk_at dksX1_asset_2 16 rfl rfl)
theorem dX1_asset_93 : decode cX1_asset 93 = .ok (.getfield 232, 3) := dk_180 0 232 (dk_at dksX1_asset_2 17 rfl rfl)
theorem dX1_asset_96 : decode cX1_asset 96 = .ok (.ireturn, 1) := dk_172 (dk_at dksX1_asset_2 20 rfl rfl)
theorem dX1_asset_97 : decode cX1_asset 97 = .ok (.aload_n 3, 1) := dk_45 (dk_at dksX1_asset_2 21 rfl rfl)
theorem dX1_asset_98 : decode cX1_asset 98 = .ok (.getfield 235, 3) := dk_180 0 235 (dk_at dksX1_asset_3 0 rfl rfl)
theorem dX1_asset_101 : decode cX1_asset 101 = .ok (.ireturn, 1) := dk_172 (dk_at dksX1_asset_3 3 rfl rfl)
theorem dX1_asset_102 : decode cX1_asset 102 = .ok (.aload_n 3, 1) := dk_45 (dk_at dksX1_asset_3 4 rfl rfl)
theorem dX1_asset_103 : decode cX1_asset 103 = .ok (.getfield 238, 3) := dk_180 0 238 (dk_at dksX1_asset_3 5 rfl rfl)
theorem dX1_asset_106 : decode cX1_asset 106 = .ok (.iconst (-1), 1) := dk_2 (dk_at dksX1_asset_3 8 rfl rfl)
theorem dX1_asset_107 : decode cX1_asset 107 = .ok (.if_icmp .ne 8, 3) := dk_160 0 8 (dk_at dksX1_asset_3 9 rfl rfl)
theorem dX1_asset_110 : decode cX1_asset 110 = .ok (.bipush (-2), 2) := dk_16 254 (dk_at dksX1_asset_3 12 rfl rfl)
theorem dX1_asset_112 : decode cX1_asset 112 = .ok (.goto 7, 3) := dk_167 0 7 (dk_at dksX1_asset_3 14 rfl rfl)
theorem dX1_asset_115 : decode cX1_asset 115 = .ok (.aload_n 3, 1) := dk_45 (dk_at dksX1_asset_3 17 rfl rfl)
theorem dX1_asset_116 : decode cX1_asset 116 = .ok (.getfield 238, 3) := dk_180 0 238 (dk_at dksX1_asset_3 18 rfl rfl)
theorem dX1_asset_119 : decode cX1_asset 119 = .ok (.ireturn, 1) := dk_172 (dk_at dksX1_asset_3 21 rfl rfl)
theorem dX1_asset_120 : decode cX1_asset 120 = .ok (.aload_n 3, 1) := dk_45 (dk_at dksX1_asset_3 22 rfl rfl)
theorem dX1_asset_121 : decode cX1_asset 121 = .ok (.getfield 241, 3) := dk_180 0 241 (dk_at dksX1_asset_4 0 rfl rfl)
theorem dX1_asset_124 : decode cX1_asset 124 = .ok (.iconst (-1), 1) := dk_2 (dk_at dksX1_asset_4 3 rfl rfl)
theorem dX1_asset_125 : decode cX1_asset 125 = .ok (.if_icmp .ne 8, 3) := dk_160 0 8 (dk_at dksX1_asset_4 4 rfl rfl)
theorem dX1_asset_128 : decode cX1_asset 128 = .ok (.bipush (-2), 2) := dk_16 254 (dk_at dksX1_asset_4 7 rfl rfl)
theorem dX1_asset_130 : decode cX1_asset 130 = .ok (.goto 7, 3) := dk_167 0 7 (dk_at dksX1_asset_4 9 rfl rfl)
theorem dX1_asset_133 : decode cX1_asset 133 = .ok (.aload_n 3, 1) := dk_45 (dk_at dksX1_asset_4 12 rfl rfl)
theorem dX1_asset_134 : decode cX1_asset 134 = .ok (.getfield 241, 3) := dk_180 0 241 (dk_at dksX1_asset_4 13 rfl rfl)
theorem dX1_asset_137 : decode cX1_asset 137 = .ok (.ireturn, 1) := dk_172 (dk_at dksX1_asset_4 16 rfl rfl)
theorem dX1_asset_138 : decode cX1_asset 138 = .ok (.aload_n 3, 1) := dk_45 (dk_at dksX1_asset_4 17 rfl rfl)
theorem dX1_asset_139 : decode cX1_asset 139 = .ok (.getfield 145, 3) := dk_180 0 145 (dk_at dksX1_asset_4 18 rfl rfl)
theorem dX1_asset_142 : decode cX1_asset 142 = .ok (.ifCond .eq 7, 3) := dk_153 0 7 (dk_at dksX1_asset_4 21 rfl rfl)
theorem dX1_asset_145 : decode cX1_asset 145 = .ok (.iconst 1, 1) := dk_4 (dk_at dksX1_asset_5 0 rfl rfl)
theorem dX1_asset_146 : decode cX1_asset 146 = .ok (.goto 4, 3) := dk_167 0 4 (dk_at dksX1_asset_5 1 rfl rfl)
theorem dX1_asset_149 : decode cX1_asset 149 = .ok (.iconst 0, 1) := dk_3 (dk_at dksX1_asset_5 4 rfl rfl)
theorem dX1_asset_150 : decode cX1_asset 150 = .ok (.ireturn, 1) := dk_172 (dk_at dksX1_asset_5 5 rfl rfl)
theorem dX1_asset_151 : decode cX1_asset 151 = .ok (.aload_n 3, 1) := dk_45 (dk_at dksX1_asset_5 6 rfl rfl)
theorem dX1_asset_152 : decode cX1_asset 152 = .ok (.getfield 151, 3) := dk_180 0 151 (dk_at dksX1_asset_5 7 rfl rfl)
theorem dX1_asset_155 : decode cX1_asset 155 = .ok (.ireturn, 1) := dk_172 (dk_at dksX1_asset_5 10 rfl rfl)
theorem dX1_asset_156 : decode cX1_asset 156 = .ok (.aload_n 3, 1) := dk_45 (dk_at dksX1_asset_5 11 rfl rfl)
theorem dX1_asset_157 : decode cX1_asset 157 = .ok (.getfield 238, 3) := dk_180 0 238 (dk_at dksX1_asset_5 12 rfl rfl)
theorem dX1_asset_160 : decode cX1_asset 160 = .ok (.iconst (-1), 1) := dk_2 (dk_at dksX1_asset_5 15 rfl rfl)
theorem dX1_asset_161 : decode cX1_asset 161 = .ok (.if_icmp .ne 8, 3) := dk_160 0 8 (dk_at dksX1_asset_5 16 rfl rfl)
theorem dX1_asset_164 : decode cX1_asset 164 = .ok (.bipush (-2), 2) := dk_16 254 (dk_at dksX1_asset_5 19 rfl rfl)
theorem dX1_asset_166 : decode cX1_asset 166 = .ok (.goto 11, 3) := dk_167 0 11 (dk_at dksX1_asset_5 21 rfl rfl)
theorem dX1_asset_169 : decode cX1_asset 169 = .ok (.aload_n 0, 1) := dk_42 (dk_at dksX1_asset_6 0 rfl rfl)
theorem dX1_asset_170 : decode cX1_asset 170 = .ok (.getfield 65, 3) := dk_180 0 65 (dk_at dksX1_asset_6 1 rfl rfl)
theorem dX1_asset_173 : decode cX1_asset 173 = .ok (.aload_n 3, 1) := dk_45 (dk_at dksX1_asset_6 4 rfl rfl)
theorem dX1_asset_174 : decode cX1_asset 174 = .ok (.invokevirtual 244, 3) := dk_182 0 244 (dk_at dksX1_asset_6 5 rfl rfl)
theorem dX1_asset_177 : decode cX1_asset 177 = .ok (.ireturn, 1) := dk_172 (dk_at dksX1_asset_6 8 rfl rfl)
theorem dX1_asset_178 : decode cX1_asset 178 = .ok (.iconst (-1), 1) := dk_2 (dk_at dksX1_asset_6 9 rfl rfl)
theorem dX1_asset_179 : decode cX1_asset 179 = .ok (.ireturn, 1) := dk_172 (dk_at dksX1_asset_6 10 rfl rfl)
abbrev cX1_isAsset : ByteArray := prog_1_method_11_code
def yX1_isAsset : MethodName := ⟨RX1, "isAsset", "(I)Z"⟩
def dkwX1_isAsset_0 : List UInt8 := [27, 133, 9, 42, 180, 0, 65, 180, 0, 132, 182, 0, 135, 4, 100, 133, 184, 0, 96, 172]
abbrev dktX1_isAsset_0 : List UInt8 := dkwX1_isAsset_0 ++ []
theorem dksX1_isAsset_0 : cX1_isAsset.data.toList.drop 0 = dktX1_isAsset_0 := by decide +kernel
theorem dX1_isAsset_0 : decode cX1_isAsset 0 = .ok (.iload_n 1, 1) := dk_27 (dk_at dksX1_isAsset_0 0 rfl rfl)
theorem dX1_isAsset_1 : decode cX1_isAsset 1 = .ok (.i2l, 1) := dk_133 (dk_at dksX1_isAsset_0 1 rfl rfl)
theorem dX1_isAsset_2 : decode cX1_isAsset 2 = .ok (.lconst 0, 1) := dk_9 (dk_at dksX1_isAsset_0 2 rfl rfl)
theorem dX1_isAsset_3 : decode cX1_isAsset 3 = .ok (.aload_n 0, 1) := dk_42 (dk_at dksX1_isAsset_0 3 rfl rfl)
theorem dX1_isAsset_4 : decode cX1_isAsset 4 = .ok (.getfield 65, 3) := dk_180 0 65 (dk_at dksX1_isAsset_0 4 rfl rfl)
theorem dX1_isAsset_7 : decode cX1_isAsset 7 = .ok (.getfield 132, 3) := dk_180 0 132 (dk_at dksX1_isAsset_0 7 rfl rfl)
theorem dX1_isAsset_10 : decode cX1_isAsset 10 = .ok (.invokevirtual 135, 3) := dk_182 0 135 (dk_at dksX1_isAsset_0 10 rfl rfl)
theorem dX1_isAsset_13 : decode cX1_isAsset 13 = .ok (.iconst 1, 1) := dk_4 (dk_at dksX1_isAsset_0 13 rfl rfl)
theorem dX1_isAsset_14 : decode cX1_isAsset 14 = .ok (.isub, 1) := dk_100 (dk_at dksX1_isAsset_0 14 rfl rfl)
theorem dX1_isAsset_15 : decode cX1_isAsset 15 = .ok (.i2l, 1) := dk_133 (dk_at dksX1_isAsset_0 15 rfl rfl)
theorem dX1_isAsset_16 : decode cX1_isAsset 16 = .ok (.invokestatic 96, 3) := dk_184 0 96 (dk_at dksX1_isAsset_0 16 rfl rfl)
theorem dX1_isAsset_19 : decode cX1_isAsset 19 = .ok (.ireturn, 1) := dk_172 (dk_at dksX1_isAsset_0 19 rfl rfl)
abbrev cX1_ownerNow : ByteArray := prog_1_method_15_code
def yX1_ownerNow : MethodName := ⟨RX1, "ownerNow", "(LExemptDesk$Asset;)I"⟩
def dkwX1_ownerNow_0 : List UInt8 := [43, 180, 0, 145, 153, 0, 8, 43, 180, 0, 151, 172, 43, 180, 0, 154, 42, 182, 0, 158, 46, 172]
abbrev dktX1_ownerNow_0 : List UInt8 := dkwX1_ownerNow_0 ++ []
theorem dksX1_ownerNow_0 : cX1_ownerNow.data.toList.drop 0 = dktX1_ownerNow_0 := by decide +kernel
theorem dX1_ownerNow_0 : decode cX1_ownerNow 0 = .ok (.aload_n 1, 1) := dk_43 (dk_at dksX1_ownerNow_0 0 rfl rfl)
theorem dX1_ownerNow_1 : decode cX1_ownerNow 1 = .ok (.getfield 145, 3) := dk_180 0 145 (dk_at dksX1_ownerNow_0 1 rfl rfl)
theorem dX1_ownerNow_4 : decode cX1_ownerNow 4 = .ok (.ifCond .eq 8, 3) := dk_153 0 8 (dk_at dksX1_ownerNow_0 4 rfl rfl)
theorem dX1_ownerNow_7 : decode cX1_ownerNow 7 = .ok (.aload_n 1, 1) := dk_43 (dk_at dksX1_ownerNow_0 7 rfl rfl)
theorem dX1_ownerNow_8 : decode cX1_ownerNow 8 = .ok (.getfield 151, 3) := dk_180 0 151 (dk_at dksX1_ownerNow_0 8 rfl rfl)
theorem dX1_ownerNow_11 : decode cX1_ownerNow 11 = .ok (.ireturn, 1) := dk_172 (dk_at dksX1_ownerNow_0 11 rfl rfl)
theorem dX1_ownerNow_12 : decode cX1_ownerNow 12 = .ok (.aload_n 1, 1) := dk_43 (dk_at dksX1_ownerNow_0 12 rfl rfl)
theorem dX1_ownerNow_13 : decode cX1_ownerNow 13 = .ok (.getfield 154, 3) := dk_180 0 154 (dk_at dksX1_ownerNow_0 13 rfl rfl)
theorem dX1_ownerNow_16 : decode cX1_ownerNow 16 = .ok (.aload_n 0, 1) := dk_42 (dk_at dksX1_ownerNow_0 16 rfl rfl)
theorem dX1_ownerNow_17 : decode cX1_ownerNow 17 = .ok (.invokevirtual 158, 3) := dk_182 0 158 (dk_at dksX1_ownerNow_0 17 rfl rfl)
theorem dX1_ownerNow_20 : decode cX1_ownerNow 20 = .ok (.iaload, 1) := dk_46 (dk_at dksX1_ownerNow_0 20 rfl rfl)
theorem dX1_ownerNow_21 : decode cX1_ownerNow 21 = .ok (.ireturn, 1) := dk_172 (dk_at dksX1_ownerNow_0 21 rfl rfl)
abbrev cX1_year : ByteArray := prog_1_method_14_code
def yX1_year : MethodName := ⟨RX1, "year", "()I"⟩
def dkwX1_year_0 : List UInt8 := [42, 180, 0, 65, 180, 0, 142, 7, 108, 172]
abbrev dktX1_year_0 : List UInt8 := dkwX1_year_0 ++ []
theorem dksX1_year_0 : cX1_year.data.toList.drop 0 = dktX1_year_0 := by decide +kernel
theorem dX1_year_0 : decode cX1_year 0 = .ok (.aload_n 0, 1) := dk_42 (dk_at dksX1_year_0 0 rfl rfl)
theorem dX1_year_1 : decode cX1_year 1 = .ok (.getfield 65, 3) := dk_180 0 65 (dk_at dksX1_year_0 1 rfl rfl)
theorem dX1_year_4 : decode cX1_year 4 = .ok (.getfield 142, 3) := dk_180 0 142 (dk_at dksX1_year_0 4 rfl rfl)
theorem dX1_year_7 : decode cX1_year 7 = .ok (.iconst 4, 1) := dk_7 (dk_at dksX1_year_0 7 rfl rfl)
theorem dX1_year_8 : decode cX1_year 8 = .ok (.idiv, 1) := dk_108 (dk_at dksX1_year_0 8 rfl rfl)
theorem dX1_year_9 : decode cX1_year 9 = .ok (.ireturn, 1) := dk_172 (dk_at dksX1_year_0 9 rfl rfl)
abbrev cX1_sale : ByteArray := prog_1_method_20_code
def yX1_sale : MethodName := ⟨RX1, "sale", "(III)I"⟩
def dkwX1_sale_3 : List UInt8 := [27, 50, 42, 180, 0, 65, 180, 0, 142, 50, 180, 1, 11, 28, 47, 136, 172]
abbrev dktX1_sale_3 : List UInt8 := dkwX1_sale_3 ++ []
def dkwX1_sale_2 : List UInt8 := [180, 0, 65, 180, 0, 142, 50, 180, 1, 11, 28, 92, 47, 29, 133, 97, 80, 42, 180, 0, 65, 180, 1, 7]
abbrev dktX1_sale_2 : List UInt8 := dkwX1_sale_2 ++ dktX1_sale_3
def dkwX1_sale_1 : List UInt8 := [184, 0, 96, 154, 0, 5, 2, 172, 42, 182, 1, 4, 42, 180, 0, 65, 180, 1, 7, 27, 50, 42]
abbrev dktX1_sale_1 : List UInt8 := dkwX1_sale_1 ++ dktX1_sale_2
def dkwX1_sale_0 : List UInt8 := [42, 27, 182, 0, 185, 153, 0, 25, 28, 133, 9, 10, 184, 0, 96, 153, 0, 15, 29, 133, 10, 20, 1, 2]
abbrev dktX1_sale_0 : List UInt8 := dkwX1_sale_0 ++ dktX1_sale_1
theorem dksX1_sale_0 : cX1_sale.data.toList.drop 0 = dktX1_sale_0 := by decide +kernel
theorem dksX1_sale_1 : cX1_sale.data.toList.drop 24 = dktX1_sale_1 := dk_seg dksX1_sale_0 24 rfl rfl
theorem dksX1_sale_2 : cX1_sale.data.toList.drop 46 = dktX1_sale_2 := dk_seg dksX1_sale_1 22 rfl rfl
theorem dksX1_sale_3 : cX1_sale.data.toList.drop 70 = dktX1_sale_3 := dk_seg dksX1_sale_2 24 rfl rfl
theorem dX1_sale_0 : decode cX1_sale 0 = .ok (.aload_n 0, 1) := dk_42 (dk_at dksX1_sale_0 0 rfl rfl)
theorem dX1_sale_1 : decode cX1_sale 1 = .ok (.iload_n 1, 1) := dk_27 (dk_at dksX1_sale_0 1 rfl rfl)
theorem dX1_sale_2 : decode cX1_sale 2 = .ok (.invokevirtual 185, 3) := dk_182 0 185 (dk_at dksX1_sale_0 2 rfl rfl)
theorem dX1_sale_5 : decode cX1_sale 5 = .ok (.ifCond .eq 25, 3) := dk_153 0 25 (dk_at dksX1_sale_0 5 rfl rfl)
theorem dX1_sale_8 : decode cX1_sale 8 = .ok (.iload_n 2, 1) := dk_28 (dk_at dksX1_sale_0 8 rfl rfl)
theorem dX1_sale_9 : decode cX1_sale 9 = .ok (.i2l, 1) := dk_133 (dk_at dksX1_sale_0 9 rfl rfl)
theorem dX1_sale_10 : decode cX1_sale 10 = .ok (.lconst 0, 1) := dk_9 (dk_at dksX1_sale_0 10 rfl rfl)
theorem dX1_sale_11 : decode cX1_sale 11 = .ok (.lconst 1, 1) := dk_10 (dk_at dksX1_sale_0 11 rfl rfl)
theorem dX1_sale_12 : decode cX1_sale 12 = .ok (.invokestatic 96, 3) := dk_184 0 96 (dk_at dksX1_sale_0 12 rfl rfl)
theorem dX1_sale_15 : decode cX1_sale 15 = .ok (.ifCond .eq 15, 3) := dk_153 0 15 (dk_at dksX1_sale_0 15 rfl rfl)
theorem dX1_sale_18 : decode cX1_sale 18 = .ok (.iload_n 3, 1) := dk_29 (dk_at dksX1_sale_0 18 rfl rfl)
theorem dX1_sale_19 : decode cX1_sale 19 = .ok (.i2l, 1) := dk_133 (dk_at dksX1_sale_0 19 rfl rfl)
theorem dX1_sale_20 : decode cX1_sale 20 = .ok (.lconst 1, 1) := dk_10 (dk_at dksX1_sale_0 20 rfl rfl)
theorem dX1_sale_21 : decode cX1_sale 21 = .ok (.ldc2_w 258, 3) := dk_20 1 2 (dk_at dksX1_sale_0 21 rfl rfl)
theorem dX1_sale_24 : decode cX1_sale 24 = .ok (.invokestatic 96, 3) := dk_184 0 96 (dk_at dksX1_sale_1 0 rfl rfl)
theorem dX1_sale_27 : decode cX1_sale 27 = .ok (.ifCond .ne 5, 3) := dk_154 0 5 (dk_at dksX1_sale_1 3 rfl rfl)
theorem dX1_sale_30 : decode cX1_sale 30 = .ok (.iconst (-1), 1) := dk_2 (dk_at dksX1_sale_1 6 rfl rfl)
theorem dX1_sale_31 : decode cX1_sale 31 = .ok (.ireturn, 1) := dk_172 (dk_at dksX1_sale_1 7 rfl rfl)
theorem dX1_sale_32 : decode cX1_sale 32 = .ok (.aload_n 0, 1) := dk_42 (dk_at dksX1_sale_1 8 rfl rfl)
theorem dX1_sale_33 : decode cX1_sale 33 = .ok (.invokevirtual 260, 3) := dk_182 1 4 (dk_at dksX1_sale_1 9 rfl rfl)
theorem dX1_sale_36 : decode cX1_sale 36 = .ok (.aload_n 0, 1) := dk_42 (dk_at dksX1_sale_1 12 rfl rfl)
theorem dX1_sale_37 : decode cX1_sale 37 = .ok (.getfield 65, 3) := dk_180 0 65 (dk_at dksX1_sale_1 13 rfl rfl)
theorem dX1_sale_40 : decode cX1_sale 40 = .ok (.getfield 263, 3) := dk_180 1 7 (dk_at dksX1_sale_1 16 rfl rfl)
theorem dX1_sale_43 : decode cX1_sale 43 = .ok (.iload_n 1, 1) := dk_27 (dk_at dksX1_sale_1 19 rfl rfl)
theorem dX1_sale_44 : decode cX1_sale 44 = .ok (.aaload, 1) := dk_50 (dk_at dksX1_sale_1 20 rfl rfl)
theorem dX1_sale_45 : decode cX1_sale 45 = .ok (.aload_n 0, 1) := dk_42 (dk_at dksX1_sale_1 21 rfl rfl)
theorem dX1_sale_46 : decode cX1_sale 46 = .ok (.getfield 65, 3) := dk_180 0 65 (dk_at dksX1_sale_2 0 rfl rfl)
theorem dX1_sale_49 : decode cX1_sale 49 = .ok (.getfield 142, 3) := dk_180 0 142 (dk_at dksX1_sale_2 3 rfl rfl)
theorem dX1_sale_52 : decode cX1_sale 52 = .ok (.aaload, 1) := dk_50 (dk_at dksX1_sale_2 6 rfl rfl)
theorem dX1_sale_53 : decode cX1_sale 53 = .ok (.getfield 267, 3) := dk_180 1 11 (dk_at dksX1_sale_2 7 rfl rfl)
theorem dX1_sale_56 : decode cX1_sale 56 = .ok (.iload_n 2, 1) := dk_28 (dk_at dksX1_sale_2 10 rfl rfl)
theorem dX1_sale_57 : decode cX1_sale 57 = .ok (.dup2, 1) := dk_92 (dk_at dksX1_sale_2 11 rfl rfl)
theorem dX1_sale_58 : decode cX1_sale 58 = .ok (.laload, 1) := dk_47 (dk_at dksX1_sale_2 12 rfl rfl)
theorem dX1_sale_59 : decode cX1_sale 59 = .ok (.iload_n 3, 1) := dk_29 (dk_at dksX1_sale_2 13 rfl rfl)
theorem dX1_sale_60 : decode cX1_sale 60 = .ok (.i2l, 1) := dk_133 (dk_at dksX1_sale_2 14 rfl rfl)
theorem dX1_sale_61 : decode cX1_sale 61 = .ok (.ladd, 1) := dk_97 (dk_at dksX1_sale_2 15 rfl rfl)
theorem dX1_sale_62 : decode cX1_sale 62 = .ok (.lastore, 1) := dk_80 (dk_at dksX1_sale_2 16 rfl rfl)
theorem dX1_sale_63 : decode cX1_sale 63 = .ok (.aload_n 0, 1) := dk_42 (dk_at dksX1_sale_2 17 rfl rfl)
theorem dX1_sale_64 : decode cX1_sale 64 = .ok (.getfield 65, 3) := dk_180 0 65 (dk_at dksX1_sale_2 18 rfl rfl)
theorem dX1_sale_67 : decode cX1_sale 67 = .ok (.getfield 263, 3) := dk_180 1 7 (dk_at dksX1_sale_2 21 rfl rfl)
theorem dX1_sale_70 : decode cX1_sale 70 = .ok (.iload_n 1, 1) := dk_27 (dk_at dksX1_sale_3 0 rfl rfl)
theorem dX1_sale_71 : decode cX1_sale 71 = .ok (.aaload, 1) := dk_50 (dk_at dksX1_sale_3 1 rfl rfl)
theorem dX1_sale_72 : decode cX1_sale 72 = .ok (.aload_n 0, 1) := dk_42 (dk_at dksX1_sale_3 2 rfl rfl)
theorem dX1_sale_73 : decode cX1_sale 73 = .ok (.getfield 65, 3) := dk_180 0 65 (dk_at dksX1_sale_3 3 rfl rfl)
theorem dX1_sale_76 : decode cX1_sale 76 = .ok (.getfield 142, 3) := dk_180 0 142 (dk_at dksX1_sale_3 6 rfl rfl)
theorem dX1_sale_79 : decode cX1_sale 79 = .ok (.aaload, 1) := dk_50 (dk_at dksX1_sale_3 9 rfl rfl)
theorem dX1_sale_80 : decode cX1_sale 80 = .ok (.getfield 267, 3) := dk_180 1 11 (dk_at dksX1_sale_3 10 rfl rfl)
theorem dX1_sale_83 : decode cX1_sale 83 = .ok (.iload_n 2, 1) := dk_28 (dk_at dksX1_sale_3 13 rfl rfl)
theorem dX1_sale_84 : decode cX1_sale 84 = .ok (.laload, 1) := dk_47 (dk_at dksX1_sale_3 14 rfl rfl)
theorem dX1_sale_85 : decode cX1_sale 85 = .ok (.l2i, 1) := dk_136 (dk_at dksX1_sale_3 15 rfl rfl)
theorem dX1_sale_86 : decode cX1_sale 86 = .ok (.ireturn, 1) := dk_172 (dk_at dksX1_sale_3 16 rfl rfl)
abbrev cX1_isTrader : ByteArray := prog_1_method_10_code
def yX1_isTrader : MethodName := ⟨RX1, "isTrader", "(I)Z"⟩
def dkwX1_isTrader_0 : List UInt8 := [27, 133, 9, 42, 180, 0, 54, 182, 0, 128, 4, 100, 133, 184, 0, 96, 172]
abbrev dktX1_isTrader_0 : List UInt8 := dkwX1_isTrader_0 ++ []
theorem dksX1_isTrader_0 : cX1_isTrader.data.toList.drop 0 = dktX1_isTrader_0 := by decide +kernel
theorem dX1_isTrader_0 : decode cX1_isTrader 0 = .ok (.iload_n 1, 1) := dk_27 (dk_at dksX1_isTrader_0 0 rfl rfl)
theorem dX1_isTrader_1 : decode cX1_isTrader 1 = .ok (.i2l, 1) := dk_133 (dk_at dksX1_isTrader_0 1 rfl rfl)
theorem dX1_isTrader_2 : decode cX1_isTrader 2 = .ok (.lconst 0, 1) := dk_9 (dk_at dksX1_isTrader_0 2 rfl rfl)
theorem dX1_isTrader_3 : decode cX1_isTrader 3 = .ok (.aload_n 0, 1) := dk_42 (dk_at dksX1_isTrader_0 3 rfl rfl)
theorem dX1_isTrader_4 : decode cX1_isTrader 4 = .ok (.getfield 54, 3) := dk_180 0 54 (dk_at dksX1_isTrader_0 4 rfl rfl)
theorem dX1_isTrader_7 : decode cX1_isTrader 7 = .ok (.invokevirtual 128, 3) := dk_182 0 128 (dk_at dksX1_isTrader_0 7 rfl rfl)
theorem dX1_isTrader_10 : decode cX1_isTrader 10 = .ok (.iconst 1, 1) := dk_4 (dk_at dksX1_isTrader_0 10 rfl rfl)
theorem dX1_isTrader_11 : decode cX1_isTrader 11 = .ok (.isub, 1) := dk_100 (dk_at dksX1_isTrader_0 11 rfl rfl)
theorem dX1_isTrader_12 : decode cX1_isTrader 12 = .ok (.i2l, 1) := dk_133 (dk_at dksX1_isTrader_0 12 rfl rfl)
theorem dX1_isTrader_13 : decode cX1_isTrader 13 = .ok (.invokestatic 96, 3) := dk_184 0 96 (dk_at dksX1_isTrader_0 13 rfl rfl)
theorem dX1_isTrader_16 : decode cX1_isTrader 16 = .ok (.ireturn, 1) := dk_172 (dk_at dksX1_isTrader_0 16 rfl rfl)
abbrev cX1_remembers : ByteArray := prog_1_method_19_code
def yX1_remembers : MethodName := ⟨RX1, "remembers", "()V"⟩
def dkwX1_remembers_2 : List UInt8 := [182, 0, 254, 177]
abbrev dktX1_remembers_2 : List UInt8 := dkwX1_remembers_2 ++ []
def dkwX1_remembers_1 : List UInt8 := [167, 0, 11, 187, 0, 58, 89, 42, 183, 0, 60, 76, 42, 180, 0, 75, 43, 42, 180, 0, 65, 182, 0, 250]
abbrev dktX1_remembers_1 : List UInt8 := dkwX1_remembers_1 ++ dktX1_remembers_2
def dkwX1_remembers_0 : List UInt8 := [42, 180, 0, 75, 182, 0, 135, 16, 20, 160, 0, 16, 42, 180, 0, 75, 182, 0, 247, 192, 0, 58]
abbrev dktX1_remembers_0 : List UInt8 := dkwX1_remembers_0 ++ dktX1_remembers_1
theorem dksX1_remembers_0 : cX1_remembers.data.toList.drop 0 = dktX1_remembers_0 := by decide +kernel
theorem dksX1_remembers_1 : cX1_remembers.data.toList.drop 22 = dktX1_remembers_1 := dk_seg dksX1_remembers_0 22 rfl rfl
theorem dksX1_remembers_2 : cX1_remembers.data.toList.drop 46 = dktX1_remembers_2 := dk_seg dksX1_remembers_1 24 rfl rfl
theorem dX1_remembers_0 : decode cX1_remembers 0 = .ok (.aload_n 0, 1) := dk_42 (dk_at dksX1_remembers_0 0 rfl rfl)
theorem dX1_remembers_1 : decode cX1_remembers 1 = .ok (.getfield 75, 3) := dk_180 0 75 (dk_at dksX1_remembers_0 1 rfl rfl)
theorem dX1_remembers_4 : decode cX1_remembers 4 = .ok (.invokevirtual 135, 3) := dk_182 0 135 (dk_at dksX1_remembers_0 4 rfl rfl)
theorem dX1_remembers_7 : decode cX1_remembers 7 = .ok (.bipush 20, 2) := dk_16 20 (dk_at dksX1_remembers_0 7 rfl rfl)
theorem dX1_remembers_9 : decode cX1_remembers 9 = .ok (.if_icmp .ne 16, 3) := dk_160 0 16 (dk_at dksX1_remembers_0 9 rfl rfl)
theorem dX1_remembers_12 : decode cX1_remembers 12 = .ok (.aload_n 0, 1) := dk_42 (dk_at dksX1_remembers_0 12 rfl rfl)
theorem dX1_remembers_13 : decode cX1_remembers 13 = .ok (.getfield 75, 3) := dk_180 0 75 (dk_at dksX1_remembers_0 13 rfl rfl)
theorem dX1_remembers_16 : decode cX1_remembers 16 = .ok (.invokevirtual 247, 3) := dk_182 0 247 (dk_at dksX1_remembers_0 16 rfl rfl)
theorem dX1_remembers_19 : decode cX1_remembers 19 = .ok (.checkcast 58, 3) := dk_192 0 58 (dk_at dksX1_remembers_0 19 rfl rfl)
theorem dX1_remembers_22 : decode cX1_remembers 22 = .ok (.goto 11, 3) := dk_167 0 11 (dk_at dksX1_remembers_1 0 rfl rfl)
theorem dX1_remembers_25 : decode cX1_remembers 25 = .ok (.new 58, 3) := dk_187 0 58 (dk_at dksX1_remembers_1 3 rfl rfl)
theorem dX1_remembers_28 : decode cX1_remembers 28 = .ok (.dup, 1) := dk_89 (dk_at dksX1_remembers_1 6 rfl rfl)
theorem dX1_remembers_29 : decode cX1_remembers 29 = .ok (.aload_n 0, 1) := dk_42 (dk_at dksX1_remembers_1 7 rfl rfl)
theorem dX1_remembers_30 : decode cX1_remembers 30 = .ok (.invokespecial 60, 3) := dk_183 0 60 (dk_at dksX1_remembers_1 8 rfl rfl)
theorem dX1_remembers_33 : decode cX1_remembers 33 = .ok (.astore_n 1, 1) := dk_76 (dk_at dksX1_remembers_1 11 rfl rfl)
theorem dX1_remembers_34 : decode cX1_remembers 34 = .ok (.aload_n 0, 1) := dk_42 (dk_at dksX1_remembers_1 12 rfl rfl)
theorem dX1_remembers_35 : decode cX1_remembers 35 = .ok (.getfield 75, 3) := dk_180 0 75 (dk_at dksX1_remembers_1 13 rfl rfl)
theorem dX1_remembers_38 : decode cX1_remembers 38 = .ok (.aload_n 1, 1) := dk_43 (dk_at dksX1_remembers_1 16 rfl rfl)
theorem dX1_remembers_39 : decode cX1_remembers 39 = .ok (.aload_n 0, 1) := dk_42 (dk_at dksX1_remembers_1 17 rfl rfl)
theorem dX1_remembers_40 : decode cX1_remembers 40 = .ok (.getfield 65, 3) := dk_180 0 65 (dk_at dksX1_remembers_1 18 rfl rfl)
theorem dX1_remembers_43 : decode cX1_remembers 43 = .ok (.invokevirtual 250, 3) := dk_182 0 250 (dk_at dksX1_remembers_1 21 rfl rfl)
theorem dX1_remembers_46 : decode cX1_remembers 46 = .ok (.invokevirtual 254, 3) := dk_182 0 254 (dk_at dksX1_remembers_2 0 rfl rfl)
theorem dX1_remembers_49 : decode cX1_remembers 49 = .ok (.return_, 1) := dk_177 (dk_at dksX1_remembers_2 3 rfl rfl)
abbrev cX1_buy : ByteArray := prog_1_method_21_code
def yX1_buy : MethodName := ⟨RX1, "buy", "(III)I"⟩
def dkwX1_buy_3 : List UInt8 := [180, 1, 7, 27, 50, 42, 180, 0, 65, 180, 0, 142, 50, 180, 1, 11, 5, 28, 96, 47, 136, 172]
abbrev dktX1_buy_3 : List UInt8 := dkwX1_buy_3 ++ []
def dkwX1_buy_2 : List UInt8 := [42, 180, 0, 65, 180, 0, 142, 50, 180, 1, 11, 5, 28, 96, 92, 47, 29, 133, 97, 80, 42, 180, 0, 65]
abbrev dktX1_buy_2 : List UInt8 := dkwX1_buy_2 ++ dktX1_buy_3
def dkwX1_buy_1 : List UInt8 := [20, 1, 16, 184, 0, 96, 154, 0, 5, 2, 172, 42, 182, 1, 4, 42, 180, 0, 65, 180, 1, 7, 27, 50]
abbrev dktX1_buy_1 : List UInt8 := dkwX1_buy_1 ++ dktX1_buy_2
def dkwX1_buy_0 : List UInt8 := [42, 27, 182, 0, 185, 153, 0, 27, 28, 133, 9, 20, 1, 14, 184, 0, 96, 153, 0, 15, 29, 133, 10]
abbrev dktX1_buy_0 : List UInt8 := dkwX1_buy_0 ++ dktX1_buy_1
theorem dksX1_buy_0 : cX1_buy.data.toList.drop 0 = dktX1_buy_0 := by decide +kernel
theorem dksX1_buy_1 : cX1_buy.data.toList.drop 23 = dktX1_buy_1 := dk_seg dksX1_buy_0 23 rfl rfl
theorem dksX1_buy_2 : cX1_buy.data.toList.drop 47 = dktX1_buy_2 := dk_seg dksX1_buy_1 24 rfl rfl
theorem dksX1_buy_3 : cX1_buy.data.toList.drop 71 = dktX1_buy_3 := dk_seg dksX1_buy_2 24 rfl rfl
theorem dX1_buy_0 : decode cX1_buy 0 = .ok (.aload_n 0, 1) := dk_42 (dk_at dksX1_buy_0 0 rfl rfl)
theorem dX1_buy_1 : decode cX1_buy 1 = .ok (.iload_n 1, 1) := dk_27 (dk_at dksX1_buy_0 1 rfl rfl)
theorem dX1_buy_2 : decode cX1_buy 2 = .ok (.invokevirtual 185, 3) := dk_182 0 185 (dk_at dksX1_buy_0 2 rfl rfl)
theorem dX1_buy_5 : decode cX1_buy 5 = .ok (.ifCond .eq 27, 3) := dk_153 0 27 (dk_at dksX1_buy_0 5 rfl rfl)
theorem dX1_buy_8 : decode cX1_buy 8 = .ok (.iload_n 2, 1) := dk_28 (dk_at dksX1_buy_0 8 rfl rfl)
theorem dX1_buy_9 : decode cX1_buy 9 = .ok (.i2l, 1) := dk_133 (dk_at dksX1_buy_0 9 rfl rfl)
theorem dX1_buy_10 : decode cX1_buy 10 = .ok (.lconst 0, 1) := dk_9 (dk_at dksX1_buy_0 10 rfl rfl)
theorem dX1_buy_11 : decode cX1_buy 11 = .ok (.ldc2_w 270, 3) := dk_20 1 14 (dk_at dksX1_buy_0 11 rfl rfl)
theorem dX1_buy_14 : decode cX1_buy 14 = .ok (.invokestatic 96, 3) := dk_184 0 96 (dk_at dksX1_buy_0 14 rfl rfl)
theorem dX1_buy_17 : decode cX1_buy 17 = .ok (.ifCond .eq 15, 3) := dk_153 0 15 (dk_at dksX1_buy_0 17 rfl rfl)
theorem dX1_buy_20 : decode cX1_buy 20 = .ok (.iload_n 3, 1) := dk_29 (dk_at dksX1_buy_0 20 rfl rfl)
theorem dX1_buy_21 : decode cX1_buy 21 = .ok (.i2l, 1) := dk_133 (dk_at dksX1_buy_0 21 rfl rfl)
theorem dX1_buy_22 : decode cX1_buy 22 = .ok (.lconst 1, 1) := dk_10 (dk_at dksX1_buy_0 22 rfl rfl)
theorem dX1_buy_23 : decode cX1_buy 23 = .ok (.ldc2_w 272, 3) := dk_20 1 16 (dk_at dksX1_buy_1 0 rfl rfl)
theorem dX1_buy_26 : decode cX1_buy 26 = .ok (.invokestatic 96, 3) := dk_184 0 96 (dk_at dksX1_buy_1 3 rfl rfl)
theorem dX1_buy_29 : decode cX1_buy 29 = .ok (.ifCond .ne 5, 3) := dk_154 0 5 (dk_at dksX1_buy_1 6 rfl rfl)
theorem dX1_buy_32 : decode cX1_buy 32 = .ok (.iconst (-1), 1) := dk_2 (dk_at dksX1_buy_1 9 rfl rfl)
theorem dX1_buy_33 : decode cX1_buy 33 = .ok (.ireturn, 1) := dk_172 (dk_at dksX1_buy_1 10 rfl rfl)
theorem dX1_buy_34 : decode cX1_buy 34 = .ok (.aload_n 0, 1) := dk_42 (dk_at dksX1_buy_1 11 rfl rfl)
theorem dX1_buy_35 : decode cX1_buy 35 = .ok (.invokevirtual 260, 3) := dk_182 1 4 (dk_at dksX1_buy_1 12 rfl rfl)
theorem dX1_buy_38 : decode cX1_buy 38 = .ok (.aload_n 0, 1) := dk_42 (dk_at dksX1_buy_1 15 rfl rfl)
theorem dX1_buy_39 : decode cX1_buy 39 = .ok (.getfield 65, 3) := dk_180 0 65 (dk_at dksX1_buy_1 16 rfl rfl)
theorem dX1_buy_42 : decode cX1_buy 42 = .ok (.getfield 263, 3) := dk_180 1 7 (dk_at dksX1_buy_1 19 rfl rfl)
theorem dX1_buy_45 : decode cX1_buy 45 = .ok (.iload_n 1, 1) := dk_27 (dk_at dksX1_buy_1 22 rfl rfl)
theorem dX1_buy_46 : decode cX1_buy 46 = .ok (.aaload, 1) := dk_50 (dk_at dksX1_buy_1 23 rfl rfl)
theorem dX1_buy_47 : decode cX1_buy 47 = .ok (.aload_n 0, 1) := dk_42 (dk_at dksX1_buy_2 0 rfl rfl)
theorem dX1_buy_48 : decode cX1_buy 48 = .ok (.getfield 65, 3) := dk_180 0 65 (dk_at dksX1_buy_2 1 rfl rfl)
theorem dX1_buy_51 : decode cX1_buy 51 = .ok (.getfield 142, 3) := dk_180 0 142 (dk_at dksX1_buy_2 4 rfl rfl)
theorem dX1_buy_54 : decode cX1_buy 54 = .ok (.aaload, 1) := dk_50 (dk_at dksX1_buy_2 7 rfl rfl)
theorem dX1_buy_55 : decode cX1_buy 55 = .ok (.getfield 267, 3) := dk_180 1 11 (dk_at dksX1_buy_2 8 rfl rfl)
theorem dX1_buy_58 : decode cX1_buy 58 = .ok (.iconst 2, 1) := dk_5 (dk_at dksX1_buy_2 11 rfl rfl)
theorem dX1_buy_59 : decode cX1_buy 59 = .ok (.iload_n 2, 1) := dk_28 (dk_at dksX1_buy_2 12 rfl rfl)
theorem dX1_buy_60 : decode cX1_buy 60 = .ok (.iadd, 1) := dk_96 (dk_at dksX1_buy_2 13 rfl rfl)
theorem dX1_buy_61 : decode cX1_buy 61 = .ok (.dup2, 1) := dk_92 (dk_at dksX1_buy_2 14 rfl rfl)
theorem dX1_buy_62 : decode cX1_buy 62 = .ok (.laload, 1) := dk_47 (dk_at dksX1_buy_2 15 rfl rfl)
theorem dX1_buy_63 : decode cX1_buy 63 = .ok (.iload_n 3, 1) := dk_29 (dk_at dksX1_buy_2 16 rfl rfl)
theorem dX1_buy_64 : decode cX1_buy 64 = .ok (.i2l, 1) := dk_133 (dk_at dksX1_buy_2 17 rfl rfl)
theorem dX1_buy_65 : decode cX1_buy 65 = .ok (.ladd, 1) := dk_97 (dk_at dksX1_buy_2 18 rfl rfl)
theorem dX1_buy_66 : decode cX1_buy 66 = .ok (.lastore, 1) := dk_80 (dk_at dksX1_buy_2 19 rfl rfl)
theorem dX1_buy_67 : decode cX1_buy 67 = .ok (.aload_n 0, 1) := dk_42 (dk_at dksX1_buy_2 20 rfl rfl)
theorem dX1_buy_68 : decode cX1_buy 68 = .ok (.getfield 65, 3) := dk_180 0 65 (dk_at dksX1_buy_2 21 rfl rfl)
theorem dX1_buy_71 : decode cX1_buy 71 = .ok (.getfield 263, 3) := dk_180 1 7 (dk_at dksX1_buy_3 0 rfl rfl)
theorem dX1_buy_74 : decode cX1_buy 74 = .ok (.iload_n 1, 1) := dk_27 (dk_at dksX1_buy_3 3 rfl rfl)
theorem dX1_buy_75 : decode cX1_buy 75 = .ok (.aaload, 1) := dk_50 (dk_at dksX1_buy_3 4 rfl rfl)
theorem dX1_buy_76 : decode cX1_buy 76 = .ok (.aload_n 0, 1) := dk_42 (dk_at dksX1_buy_3 5 rfl rfl)
theorem dX1_buy_77 : decode cX1_buy 77 = .ok (.getfield 65, 3) := dk_180 0 65 (dk_at dksX1_buy_3 6 rfl rfl)
theorem dX1_buy_80 : decode cX1_buy 80 = .ok (.getfield 142, 3) := dk_180 0 142 (dk_at dksX1_buy_3 9 rfl rfl)
theorem dX1_buy_83 : decode cX1_buy 83 = .ok (.aaload, 1) := dk_50 (dk_at dksX1_buy_3 12 rfl rfl)
theorem dX1_buy_84 : decode cX1_buy 84 = .ok (.getfield 267, 3) := dk_180 1 11 (dk_at dksX1_buy_3 13 rfl rfl)
theorem dX1_buy_87 : decode cX1_buy 87 = .ok (.iconst 2, 1) := dk_5 (dk_at dksX1_buy_3 16 rfl rfl)
theorem dX1_buy_88 : decode cX1_buy 88 = .ok (.iload_n 2, 1) := dk_28 (dk_at dksX1_buy_3 17 rfl rfl)
theorem dX1_buy_89 : decode cX1_buy 89 = .ok (.iadd, 1) := dk_96 (dk_at dksX1_buy_3 18 rfl rfl)
theorem dX1_buy_90 : decode cX1_buy 90 = .ok (.laload, 1) := dk_47 (dk_at dksX1_buy_3 19 rfl rfl)
theorem dX1_buy_91 : decode cX1_buy 91 = .ok (.l2i, 1) := dk_136 (dk_at dksX1_buy_3 20 rfl rfl)
theorem dX1_buy_92 : decode cX1_buy 92 = .ok (.ireturn, 1) := dk_172 (dk_at dksX1_buy_3 21 rfl rfl)
abbrev cX1_late : ByteArray := prog_1_method_22_code
def yX1_late : MethodName := ⟨RX1, "late", "(IIII)I"⟩
def dkwX1_late_4 : List UInt8 := [50, 180, 1, 11, 29, 47, 136, 172]
abbrev dktX1_late_4 : List UInt8 := dkwX1_late_4 ++ []
def dkwX1_late_3 : List UInt8 := [50, 28, 50, 180, 1, 11, 29, 92, 47, 21, 4, 133, 97, 80, 42, 180, 0, 65, 180, 1, 7, 27, 50, 28]
abbrev dktX1_late_3 : List UInt8 := dkwX1_late_3 ++ dktX1_late_4
def dkwX1_late_2 : List UInt8 := [10, 20, 1, 16, 184, 0, 96, 154, 0, 5, 2, 172, 42, 182, 1, 4, 42, 180, 0, 65, 180, 1, 7, 27]
abbrev dktX1_late_2 : List UInt8 := dkwX1_late_2 ++ dktX1_late_3
def dkwX1_late_1 : List UInt8 := [4, 100, 133, 184, 0, 96, 153, 0, 28, 29, 133, 9, 20, 1, 18, 184, 0, 96, 153, 0, 16, 21, 4, 133]
abbrev dktX1_late_1 : List UInt8 := dkwX1_late_1 ++ dktX1_late_2
def dkwX1_late_0 : List UInt8 := [42, 27, 182, 0, 185, 153, 0, 53, 28, 133, 7, 42, 182, 0, 158, 104, 133, 42, 180, 0, 65, 180, 0, 142]
abbrev dktX1_late_0 : List UInt8 := dkwX1_late_0 ++ dktX1_late_1
theorem dksX1_late_0 : cX1_late.data.toList.drop 0 = dktX1_late_0 := by decide +kernel
theorem dksX1_late_1 : cX1_late.data.toList.drop 24 = dktX1_late_1 := dk_seg dksX1_late_0 24 rfl rfl
theorem dksX1_late_2 : cX1_late.data.toList.drop 48 = dktX1_late_2 := dk_seg dksX1_late_1 24 rfl rfl
theorem dksX1_late_3 : cX1_late.data.toList.drop 72 = dktX1_late_3 := dk_seg dksX1_late_2 24 rfl rfl
theorem dksX1_late_4 : cX1_late.data.toList.drop 96 = dktX1_late_4 := dk_seg dksX1_late_3 24 rfl rfl
theorem dX1_late_0 : decode cX1_late 0 = .ok (.aload_n 0, 1) := dk_42 (dk_at dksX1_late_0 0 rfl rfl)
theorem dX1_late_1 : decode cX1_late 1 = .ok (.iload_n 1, 1) := dk_27 (dk_at dksX1_late_0 1 rfl rfl)
theorem dX1_late_2 : decode cX1_late 2 = .ok (.invokevirtual 185, 3) := dk_182 0 185 (dk_at dksX1_late_0 2 rfl rfl)
theorem dX1_late_5 : decode cX1_late 5 = .ok (.ifCond .eq 53, 3) := dk_153 0 53 (dk_at dksX1_late_0 5 rfl rfl)
theorem dX1_late_8 : decode cX1_late 8 = .ok (.iload_n 2, 1) := dk_28 (dk_at dksX1_late_0 8 rfl rfl)
theorem dX1_late_9 : decode cX1_late 9 = .ok (.i2l, 1) := dk_133 (dk_at dksX1_late_0 9 rfl rfl)
theorem dX1_late_10 : decode cX1_late 10 = .ok (.iconst 4, 1) := dk_7 (dk_at dksX1_late_0 10 rfl rfl)
theorem dX1_late_11 : decode cX1_late 11 = .ok (.aload_n 0, 1) := dk_42 (dk_at dksX1_late_0 11 rfl rfl)
theorem dX1_late_12 : decode cX1_late 12 = .ok (.invokevirtual 158, 3) := dk_182 0 158 (dk_at dksX1_late_0 12 rfl rfl)
theorem dX1_late_15 : decode cX1_late 15 = .ok (.imul, 1) := dk_104 (dk_at dksX1_late_0 15 rfl rfl)
theorem dX1_late_16 : decode cX1_late 16 = .ok (.i2l, 1) := dk_133 (dk_at dksX1_late_0 16 rfl rfl)
theorem dX1_late_17 : decode cX1_late 17 = .ok (.aload_n 0, 1) := dk_42 (dk_at dksX1_late_0 17 rfl rfl)
theorem dX1_late_18 : decode cX1_late 18 = .ok (.getfield 65, 3) := dk_180 0 65 (dk_at dksX1_late_0 18 rfl rfl)
theorem dX1_late_21 : decode cX1_late 21 = .ok (.getfield 142, 3) := dk_180 0 142 (dk_at dksX1_late_0 21 rfl rfl)
theorem dX1_late_24 : decode cX1_late 24 = .ok (.iconst 1, 1) := dk_4 (dk_at dksX1_late_1 0 rfl rfl)
theorem dX1_late_25 : decode cX1_late 25 = .ok (.isub, 1) := dk_100 (dk_at dksX1_late_1 1 rfl rfl)
theorem dX1_late_26 : decode cX1_late 26 = .ok (.i2l, 1) := dk_133 (dk_at dksX1_late_1 2 rfl rfl)
theorem dX1_late_27 : decode cX1_late 27 = .ok (.invokestatic 96, 3) := dk_184 0 96 (dk_at dksX1_late_1 3 rfl rfl)
theorem dX1_late_30 : decode cX1_late 30 = .ok (.ifCond .eq 28, 3) := dk_153 0 28 (dk_at dksX1_late_1 6 rfl rfl)
theorem dX1_late_33 : decode cX1_late 33 = .ok (.iload_n 3, 1) := dk_29 (dk_at dksX1_late_1 9 rfl rfl)
theorem dX1_late_34 : decode cX1_late 34 = .ok (.i2l, 1) := dk_133 (dk_at dksX1_late_1 10 rfl rfl)
theorem dX1_late_35 : decode cX1_late 35 = .ok (.lconst 0, 1) := dk_9 (dk_at dksX1_late_1 11 rfl rfl)
theorem dX1_late_36 : decode cX1_late 36 = .ok (.ldc2_w 274, 3) := dk_20 1 18 (dk_at dksX1_late_1 12 rfl rfl)
theorem dX1_late_39 : decode cX1_late 39 = .ok (.invokestatic 96, 3) := dk_184 0 96 (dk_at dksX1_late_1 15 rfl rfl)
theorem dX1_late_42 : decode cX1_late 42 = .ok (.ifCond .eq 16, 3) := dk_153 0 16 (dk_at dksX1_late_1 18 rfl rfl)
theorem dX1_late_45 : decode cX1_late 45 = .ok (.iload 4, 2) := dk_21 4 (dk_at dksX1_late_1 21 rfl rfl)
theorem dX1_late_47 : decode cX1_late 47 = .ok (.i2l, 1) := dk_133 (dk_at dksX1_late_1 23 rfl rfl)
theorem dX1_late_48 : decode cX1_late 48 = .ok (.lconst 1, 1) := dk_10 (dk_at dksX1_late_2 0 rfl rfl)
theorem dX1_late_49 : decode cX1_late 49 = .ok (.ldc2_w 272, 3) := dk_20 1 16 (dk_at dksX1_late_2 1 rfl rfl)
theorem dX1_late_52 : decode cX1_late 52 = .ok (.invokestatic 96, 3) := dk_184 0 96 (dk_at dksX1_late_2 4 rfl rfl)
theorem dX1_late_55 : decode cX1_late 55 = .ok (.ifCond .ne 5, 3) := dk_154 0 5 (dk_at dksX1_late_2 7 rfl rfl)
theorem dX1_late_58 : decode cX1_late 58 = .ok (.iconst (-1), 1) := dk_2 (dk_at dksX1_late_2 10 rfl rfl)
theorem dX1_late_59 : decode cX1_late 59 = .ok (.ireturn, 1) := dk_172 (dk_at dksX1_late_2 11 rfl rfl)
theorem dX1_late_60 : decode cX1_late 60 = .ok (.aload_n 0, 1) := dk_42 (dk_at dksX1_late_2 12 rfl rfl)
theorem dX1_late_61 : decode cX1_late 61 = .ok (.invokevirtual 260, 3) := dk_182 1 4 (dk_at dksX1_late_2 13 rfl rfl)
theorem dX1_late_64 : decode cX1_late 64 = .ok (.aload_n 0, 1) := dk_42 (dk_at dksX1_late_2 16 rfl rfl)
theorem dX1_late_65 : decode cX1_late 65 = .ok (.getfield 65, 3) := dk_180 0 65 (dk_at dksX1_late_2 17 rfl rfl)
theorem dX1_late_68 : decode cX1_late 68 = .ok (.getfield 263, 3) := dk_180 1 7 (dk_at dksX1_late_2 20 rfl rfl)
theorem dX1_late_71 : decode cX1_late 71 = .ok (.iload_n 1, 1) := dk_27 (dk_at dksX1_late_2 23 rfl rfl)
theorem dX1_late_72 : decode cX1_late 72 = .ok (.aaload, 1) := dk_50 (dk_at dksX1_late_3 0 rfl rfl)
theorem dX1_late_73 : decode cX1_late 73 = .ok (.iload_n 2, 1) := dk_28 (dk_at dksX1_late_3 1 rfl rfl)
theorem dX1_late_74 : decode cX1_late 74 = .ok (.aaload, 1) := dk_50 (dk_at dksX1_late_3 2 rfl rfl)
theorem dX1_late_75 : decode cX1_late 75 = .ok (.getfield 267, 3) := dk_180 1 11 (dk_at dksX1_late_3 3 rfl rfl)
theorem dX1_late_78 : decode cX1_late 78 = .ok (.iload_n 3, 1) := dk_29 (dk_at dksX1_late_3 6 rfl rfl)
theorem dX1_late_79 : decode cX1_late 79 = .ok (.dup2, 1) := dk_92 (dk_at dksX1_late_3 7 rfl rfl)
theorem dX1_late_80 : decode cX1_late 80 = .ok (.laload, 1) := dk_47 (dk_at dksX1_late_3 8 rfl rfl)
theorem dX1_late_81 : decode cX1_late 81 = .ok (.iload 4, 2) := dk_21 4 (dk_at dksX1_late_3 9 rfl rfl)
theorem dX1_late_83 : decode cX1_late 83 = .ok (.i2l, 1) := dk_133 (dk_at dksX1_late_3 11 rfl rfl)
theorem dX1_late_84 : decode cX1_late 84 = .ok (.ladd, 1) := dk_97 (dk_at dksX1_late_3 12 rfl rfl)
theorem dX1_late_85 : decode cX1_late 85 = .ok (.lastore, 1) := dk_80 (dk_at dksX1_late_3 13 rfl rfl)
theorem dX1_late_86 : decode cX1_late 86 = .ok (.aload_n 0, 1) := dk_42 (dk_at dksX1_late_3 14 rfl rfl)
theorem dX1_late_87 : decode cX1_late 87 = .ok (.getfield 65, 3) := dk_180 0 65 (dk_at dksX1_late_3 15 rfl rfl)
theorem dX1_late_90 : decode cX1_late 90 = .ok (.getfield 263, 3) := dk_180 1 7 (dk_at dksX1_late_3 18 rfl rfl)
theorem dX1_late_93 : decode cX1_late 93 = .ok (.iload_n 1, 1) := dk_27 (dk_at dksX1_late_3 21 rfl rfl)
theorem dX1_late_94 : decode cX1_late 94 = .ok (.aaload, 1) := dk_50 (dk_at dksX1_late_3 22 rfl rfl)
theorem dX1_late_95 : decode cX1_late 95 = .ok (.iload_n 2, 1) := dk_28 (dk_at dksX1_late_3 23 rfl rfl)
theorem dX1_late_96 : decode cX1_late 96 = .ok (.aaload, 1) := dk_50 (dk_at dksX1_late_4 0 rfl rfl)
theorem dX1_late_97 : decode cX1_late 97 = .ok (.getfield 267, 3) := dk_180 1 11 (dk_at dksX1_late_4 1 rfl rfl)
theorem dX1_late_100 : decode cX1_late 100 = .ok (.iload_n 3, 1) := dk_29 (dk_at dksX1_late_4 4 rfl rfl)
theorem dX1_late_101 : decode cX1_late 101 = .ok (.laload, 1) := dk_47 (dk_at dksX1_late_4 5 rfl rfl)
theorem dX1_late_102 : decode cX1_late 102 = .ok (.l2i, 1) := dk_136 (dk_at dksX1_late_4 6 rfl rfl)
theorem dX1_late_103 : decode cX1_late 103 = .ok (.ireturn, 1) := dk_172 (dk_at dksX1_late_4 7 rfl rfl)
abbrev cX1_heads : ByteArray := prog_1_method_23_code
def yX1_heads : MethodName := ⟨RX1, "heads", "(III)Z"⟩
def dkwX1_heads_2 : List UInt8 := [180, 0, 65, 180, 0, 207, 27, 29, 79, 4, 172]
abbrev dktX1_heads_2 : List UInt8 := dkwX1_heads_2 ++ []
def dkwX1_heads_1 : List UInt8 := [133, 184, 0, 96, 154, 0, 5, 3, 172, 42, 182, 1, 4, 42, 180, 0, 65, 180, 0, 204, 27, 28, 79, 42]
abbrev dktX1_heads_1 : List UInt8 := dkwX1_heads_1 ++ dktX1_heads_2
def dkwX1_heads_0 : List UInt8 := [42, 27, 182, 0, 185, 153, 0, 26, 29, 133, 9, 20, 1, 20, 184, 0, 96, 153, 0, 14, 28, 133, 9, 29]
abbrev dktX1_heads_0 : List UInt8 := dkwX1_heads_0 ++ dktX1_heads_1
theorem dksX1_heads_0 : cX1_heads.data.toList.drop 0 = dktX1_heads_0 := by decide +kernel
theorem dksX1_heads_1 : cX1_heads.data.toList.drop 24 = dktX1_heads_1 := dk_seg dksX1_heads_0 24 rfl rfl
theorem dksX1_heads_2 : cX1_heads.data.toList.drop 48 = dktX1_heads_2 := dk_seg dksX1_heads_1 24 rfl rfl
theorem dX1_heads_0 : decode cX1_heads 0 = .ok (.aload_n 0, 1) := dk_42 (dk_at dksX1_heads_0 0 rfl rfl)
theorem dX1_heads_1 : decode cX1_heads 1 = .ok (.iload_n 1, 1) := dk_27 (dk_at dksX1_heads_0 1 rfl rfl)
theorem dX1_heads_2 : decode cX1_heads 2 = .ok (.invokevirtual 185, 3) := dk_182 0 185 (dk_at dksX1_heads_0 2 rfl rfl)
theorem dX1_heads_5 : decode cX1_heads 5 = .ok (.ifCond .eq 26, 3) := dk_153 0 26 (dk_at dksX1_heads_0 5 rfl rfl)
theorem dX1_heads_8 : decode cX1_heads 8 = .ok (.iload_n 3, 1) := dk_29 (dk_at dksX1_heads_0 8 rfl rfl)
theorem dX1_heads_9 : decode cX1_heads 9 = .ok (.i2l, 1) := dk_133 (dk_at dksX1_heads_0 9 rfl rfl)
theorem dX1_heads_10 : decode cX1_heads 10 = .ok (.lconst 0, 1) := dk_9 (dk_at dksX1_heads_0 10 rfl rfl)
theorem dX1_heads_11 : decode cX1_heads 11 = .ok (.ldc2_w 276, 3) := dk_20 1 20 (dk_at dksX1_heads_0 11 rfl rfl)
theorem dX1_heads_14 : decode cX1_heads 14 = .ok (.invokestatic 96, 3) := dk_184 0 96 (dk_at dksX1_heads_0 14 rfl rfl)
theorem dX1_heads_17 : decode cX1_heads 17 = .ok (.ifCond .eq 14, 3) := dk_153 0 14 (dk_at dksX1_heads_0 17 rfl rfl)
theorem dX1_heads_20 : decode cX1_heads 20 = .ok (.iload_n 2, 1) := dk_28 (dk_at dksX1_heads_0 20 rfl rfl)
theorem dX1_heads_21 : decode cX1_heads 21 = .ok (.i2l, 1) := dk_133 (dk_at dksX1_heads_0 21 rfl rfl)
theorem dX1_heads_22 : decode cX1_heads 22 = .ok (.lconst 0, 1) := dk_9 (dk_at dksX1_heads_0 22 rfl rfl)
theorem dX1_heads_23 : decode cX1_heads 23 = .ok (.iload_n 3, 1) := dk_29 (dk_at dksX1_heads_0 23 rfl rfl)
theorem dX1_heads_24 : decode cX1_heads 24 = .ok (.i2l, 1) := dk_133 (dk_at dksX1_heads_1 0 rfl rfl)
theorem dX1_heads_25 : decode cX1_heads 25 = .ok (.invokestatic 96, 3) := dk_184 0 96 (dk_at dksX1_heads_1 1 rfl rfl)
theorem dX1_heads_28 : decode cX1_heads 28 = .ok (.ifCond .ne 5, 3) := dk_154 0 5 (dk_at dksX1_heads_1 4 rfl rfl)
theorem dX1_heads_31 : decode cX1_heads 31 = .ok (.iconst 0, 1) := dk_3 (dk_at dksX1_heads_1 7 rfl rfl)
theorem dX1_heads_32 : decode cX1_heads 32 = .ok (.ireturn, 1) := dk_172 (dk_at dksX1_heads_1 8 rfl rfl)
theorem dX1_heads_33 : decode cX1_heads 33 = .ok (.aload_n 0, 1) := dk_42 (dk_at dksX1_heads_1 9 rfl rfl)
theorem dX1_heads_34 : decode cX1_heads 34 = .ok (.invokevirtual 260, 3) := dk_182 1 4 (dk_at dksX1_heads_1 10 rfl rfl)
theorem dX1_heads_37 : decode cX1_heads 37 = .ok (.aload_n 0, 1) := dk_42 (dk_at dksX1_heads_1 13 rfl rfl)
theorem dX1_heads_38 : decode cX1_heads 38 = .ok (.getfield 65, 3) := dk_180 0 65 (dk_at dksX1_heads_1 14 rfl rfl)
theorem dX1_heads_41 : decode cX1_heads 41 = .ok (.getfield 204, 3) := dk_180 0 204 (dk_at dksX1_heads_1 17 rfl rfl)
theorem dX1_heads_44 : decode cX1_heads 44 = .ok (.iload_n 1, 1) := dk_27 (dk_at dksX1_heads_1 20 rfl rfl)
theorem dX1_heads_45 : decode cX1_heads 45 = .ok (.iload_n 2, 1) := dk_28 (dk_at dksX1_heads_1 21 rfl rfl)
theorem dX1_heads_46 : decode cX1_heads 46 = .ok (.iastore, 1) := dk_79 (dk_at dksX1_heads_1 22 rfl rfl)
theorem dX1_heads_47 : decode cX1_heads 47 = .ok (.aload_n 0, 1) := dk_42 (dk_at dksX1_heads_1 23 rfl rfl)
theorem dX1_heads_48 : decode cX1_heads 48 = .ok (.getfield 65, 3) := dk_180 0 65 (dk_at dksX1_heads_2 0 rfl rfl)
theorem dX1_heads_51 : decode cX1_heads 51 = .ok (.getfield 207, 3) := dk_180 0 207 (dk_at dksX1_heads_2 3 rfl rfl)
theorem dX1_heads_54 : decode cX1_heads 54 = .ok (.iload_n 1, 1) := dk_27 (dk_at dksX1_heads_2 6 rfl rfl)
theorem dX1_heads_55 : decode cX1_heads 55 = .ok (.iload_n 3, 1) := dk_29 (dk_at dksX1_heads_2 7 rfl rfl)
theorem dX1_heads_56 : decode cX1_heads 56 = .ok (.iastore, 1) := dk_79 (dk_at dksX1_heads_2 8 rfl rfl)
theorem dX1_heads_57 : decode cX1_heads 57 = .ok (.iconst 1, 1) := dk_4 (dk_at dksX1_heads_2 9 rfl rfl)
theorem dX1_heads_58 : decode cX1_heads 58 = .ok (.ireturn, 1) := dk_172 (dk_at dksX1_heads_2 10 rfl rfl)
abbrev cX1_acquire : ByteArray := prog_1_method_24_code
def yX1_acquire : MethodName := ⟨RX1, "acquire", "(IIII)I"⟩
def dkwX1_acquire_3 : List UInt8 := [29, 21, 4, 182, 1, 25, 42, 180, 0, 65, 180, 0, 132, 182, 0, 135, 4, 100, 172]
abbrev dktX1_acquire_3 : List UInt8 := dkwX1_acquire_3 ++ []
def dkwX1_acquire_2 : List UInt8 := [180, 0, 132, 182, 0, 135, 16, 8, 160, 0, 6, 16, 254, 172, 42, 182, 1, 4, 42, 180, 0, 65, 27, 28]
abbrev dktX1_acquire_2 : List UInt8 := dkwX1_acquire_2 ++ dktX1_acquire_3
def dkwX1_acquire_1 : List UInt8 := [20, 1, 2, 184, 0, 96, 153, 0, 11, 21, 4, 184, 1, 22, 154, 0, 5, 2, 172, 42, 180, 0, 65]
abbrev dktX1_acquire_1 : List UInt8 := dkwX1_acquire_1 ++ dktX1_acquire_2
def dkwX1_acquire_0 : List UInt8 := [42, 27, 182, 0, 185, 153, 0, 35, 28, 133, 9, 20, 1, 14, 184, 0, 96, 153, 0, 23, 29, 133, 10]
abbrev dktX1_acquire_0 : List UInt8 := dkwX1_acquire_0 ++ dktX1_acquire_1
theorem dksX1_acquire_0 : cX1_acquire.data.toList.drop 0 = dktX1_acquire_0 := by decide +kernel
theorem dksX1_acquire_1 : cX1_acquire.data.toList.drop 23 = dktX1_acquire_1 := dk_seg dksX1_acquire_0 23 rfl rfl
theorem dksX1_acquire_2 : cX1_acquire.data.toList.drop 46 = dktX1_acquire_2 := dk_seg dksX1_acquire_1 23 rfl rfl
theorem dksX1_acquire_3 : cX1_acquire.data.toList.drop 70 = dktX1_acquire_3 := dk_seg dksX1_acquire_2 24 rfl rfl
theorem dX1_acquire_0 : decode cX1_acquire 0 = .ok (.aload_n 0, 1) := dk_42 (dk_at dksX1_acquire_0 0 rfl rfl)
theorem dX1_acquire_1 : decode cX1_acquire 1 = .ok (.iload_n 1, 1) := dk_27 (dk_at dksX1_acquire_0 1 rfl rfl)
theorem dX1_acquire_2 : decode cX1_acquire 2 = .ok (.invokevirtual 185, 3) := dk_182 0 185 (dk_at dksX1_acquire_0 2 rfl rfl)
theorem dX1_acquire_5 : decode cX1_acquire 5 = .ok (.ifCond .eq 35, 3) := dk_153 0 35 (dk_at dksX1_acquire_0 5 rfl rfl)
theorem dX1_acquire_8 : decode cX1_acquire 8 = .ok (.iload_n 2, 1) := dk_28 (dk_at dksX1_acquire_0 8 rfl rfl)
theorem dX1_acquire_9 : decode cX1_acquire 9 = .ok (.i2l, 1) := dk_133 (dk_at dksX1_acquire_0 9 rfl rfl)
theorem dX1_acquire_10 : decode cX1_acquire 10 = .ok (.lconst 0, 1) := dk_9 (dk_at dksX1_acquire_0 10 rfl rfl)
theorem dX1_acquire_11 : decode cX1_acquire 11 = .ok (.ldc2_w 270, 3) := dk_20 1 14 (dk_at dksX1_acquire_0 11 rfl rfl)
theorem dX1_acquire_14 : decode cX1_acquire 14 = .ok (.invokestatic 96, 3) := dk_184 0 96 (dk_at dksX1_acquire_0 14 rfl rfl)
theorem dX1_acquire_17 : decode cX1_acquire 17 = .ok (.ifCond .eq 23, 3) := dk_153 0 23 (dk_at dksX1_acquire_0 17 rfl rfl)
theorem dX1_acquire_20 : decode cX1_acquire 20 = .ok (.iload_n 3, 1) := dk_29 (dk_at dksX1_acquire_0 20 rfl rfl)
theorem dX1_acquire_21 : decode cX1_acquire 21 = .ok (.i2l, 1) := dk_133 (dk_at dksX1_acquire_0 21 rfl rfl)
theorem dX1_acquire_22 : decode cX1_acquire 22 = .ok (.lconst 1, 1) := dk_10 (dk_at dksX1_acquire_0 22 rfl rfl)
theorem dX1_acquire_23 : decode cX1_acquire 23 = .ok (.ldc2_w 258, 3) := dk_20 1 2 (dk_at dksX1_acquire_1 0 rfl rfl)
theorem dX1_acquire_26 : decode cX1_acquire 26 = .ok (.invokestatic 96, 3) := dk_184 0 96 (dk_at dksX1_acquire_1 3 rfl rfl)
theorem dX1_acquire_29 : decode cX1_acquire 29 = .ok (.ifCond .eq 11, 3) := dk_153 0 11 (dk_at dksX1_acquire_1 6 rfl rfl)
theorem dX1_acquire_32 : decode cX1_acquire 32 = .ok (.iload 4, 2) := dk_21 4 (dk_at dksX1_acquire_1 9 rfl rfl)
theorem dX1_acquire_34 : decode cX1_acquire 34 = .ok (.invokestatic 278, 3) := dk_184 1 22 (dk_at dksX1_acquire_1 11 rfl rfl)
theorem dX1_acquire_37 : decode cX1_acquire 37 = .ok (.ifCond .ne 5, 3) := dk_154 0 5 (dk_at dksX1_acquire_1 14 rfl rfl)
theorem dX1_acquire_40 : decode cX1_acquire 40 = .ok (.iconst (-1), 1) := dk_2 (dk_at dksX1_acquire_1 17 rfl rfl)
theorem dX1_acquire_41 : decode cX1_acquire 41 = .ok (.ireturn, 1) := dk_172 (dk_at dksX1_acquire_1 18 rfl rfl)
theorem dX1_acquire_42 : decode cX1_acquire 42 = .ok (.aload_n 0, 1) := dk_42 (dk_at dksX1_acquire_1 19 rfl rfl)
theorem dX1_acquire_43 : decode cX1_acquire 43 = .ok (.getfield 65, 3) := dk_180 0 65 (dk_at dksX1_acquire_1 20 rfl rfl)
theorem dX1_acquire_46 : decode cX1_acquire 46 = .ok (.getfield 132, 3) := dk_180 0 132 (dk_at dksX1_acquire_2 0 rfl rfl)
theorem dX1_acquire_49 : decode cX1_acquire 49 = .ok (.invokevirtual 135, 3) := dk_182 0 135 (dk_at dksX1_acquire_2 3 rfl rfl)
theorem dX1_acquire_52 : decode cX1_acquire 52 = .ok (.bipush 8, 2) := dk_16 8 (dk_at dksX1_acquire_2 6 rfl rfl)
theorem dX1_acquire_54 : decode cX1_acquire 54 = .ok (.if_icmp .ne 6, 3) := dk_160 0 6 (dk_at dksX1_acquire_2 8 rfl rfl)
theorem dX1_acquire_57 : decode cX1_acquire 57 = .ok (.bipush (-2), 2) := dk_16 254 (dk_at dksX1_acquire_2 11 rfl rfl)
theorem dX1_acquire_59 : decode cX1_acquire 59 = .ok (.ireturn, 1) := dk_172 (dk_at dksX1_acquire_2 13 rfl rfl)
theorem dX1_acquire_60 : decode cX1_acquire 60 = .ok (.aload_n 0, 1) := dk_42 (dk_at dksX1_acquire_2 14 rfl rfl)
theorem dX1_acquire_61 : decode cX1_acquire 61 = .ok (.invokevirtual 260, 3) := dk_182 1 4 (dk_at dksX1_acquire_2 15 rfl rfl)
theorem dX1_acquire_64 : decode cX1_acquire 64 = .ok (.aload_n 0, 1) := dk_42 (dk_at dksX1_acquire_2 18 rfl rfl)
theorem dX1_acquire_65 : decode cX1_acquire 65 = .ok (.getfield 65, 3) := dk_180 0 65 (dk_at dksX1_acquire_2 19 rfl rfl)
theorem dX1_acquire_68 : decode cX1_acquire 68 = .ok (.iload_n 1, 1) := dk_27 (dk_at dksX1_acquire_2 22 rfl rfl)
theorem dX1_acquire_69 : decode cX1_acquire 69 = .ok (.iload_n 2, 1) := dk_28 (dk_at dksX1_acquire_2 23 rfl rfl)
theorem dX1_acquire_70 : decode cX1_acquire 70 = .ok (.iload_n 3, 1) := dk_29 (dk_at dksX1_acquire_3 0 rfl rfl)
theorem dX1_acquire_71 : decode cX1_acquire 71 = .ok (.iload 4, 2) := dk_21 4 (dk_at dksX1_acquire_3 1 rfl rfl)
theorem dX1_acquire_73 : decode cX1_acquire 73 = .ok (.invokevirtual 281, 3) := dk_182 1 25 (dk_at dksX1_acquire_3 3 rfl rfl)
theorem dX1_acquire_76 : decode cX1_acquire 76 = .ok (.aload_n 0, 1) := dk_42 (dk_at dksX1_acquire_3 6 rfl rfl)
theorem dX1_acquire_77 : decode cX1_acquire 77 = .ok (.getfield 65, 3) := dk_180 0 65 (dk_at dksX1_acquire_3 7 rfl rfl)
theorem dX1_acquire_80 : decode cX1_acquire 80 = .ok (.getfield 132, 3) := dk_180 0 132 (dk_at dksX1_acquire_3 10 rfl rfl)
theorem dX1_acquire_83 : decode cX1_acquire 83 = .ok (.invokevirtual 135, 3) := dk_182 0 135 (dk_at dksX1_acquire_3 13 rfl rfl)
theorem dX1_acquire_86 : decode cX1_acquire 86 = .ok (.iconst 1, 1) := dk_4 (dk_at dksX1_acquire_3 16 rfl rfl)
theorem dX1_acquire_87 : decode cX1_acquire 87 = .ok (.isub, 1) := dk_100 (dk_at dksX1_acquire_3 17 rfl rfl)
theorem dX1_acquire_88 : decode cX1_acquire 88 = .ok (.ireturn, 1) := dk_172 (dk_at dksX1_acquire_3 18 rfl rfl)
abbrev cX1_use : ByteArray := prog_1_method_25_code
def yX1_use : MethodName := ⟨RX1, "use", "(II)Z"⟩
def dkwX1_use_2 : List UInt8 := [172, 42, 182, 1, 4, 42, 180, 0, 65, 27, 182, 0, 222, 28, 181, 0, 226, 4, 172]
abbrev dktX1_use_2 : List UInt8 := dkwX1_use_2 ++ []
def dkwX1_use_1 : List UInt8 := [180, 0, 65, 27, 182, 0, 222, 78, 45, 182, 1, 29, 153, 0, 11, 45, 180, 0, 238, 2, 160, 0, 5, 3]
abbrev dktX1_use_1 : List UInt8 := dkwX1_use_1 ++ dktX1_use_2
def dkwX1_use_0 : List UInt8 := [42, 27, 182, 0, 219, 153, 0, 15, 28, 133, 9, 20, 1, 14, 184, 0, 96, 154, 0, 5, 3, 172, 42]
abbrev dktX1_use_0 : List UInt8 := dkwX1_use_0 ++ dktX1_use_1
theorem dksX1_use_0 : cX1_use.data.toList.drop 0 = dktX1_use_0 := by decide +kernel
theorem dksX1_use_1 : cX1_use.data.toList.drop 23 = dktX1_use_1 := dk_seg dksX1_use_0 23 rfl rfl
theorem dksX1_use_2 : cX1_use.data.toList.drop 47 = dktX1_use_2 := dk_seg dksX1_use_1 24 rfl rfl
theorem dX1_use_0 : decode cX1_use 0 = .ok (.aload_n 0, 1) := dk_42 (dk_at dksX1_use_0 0 rfl rfl)
theorem dX1_use_1 : decode cX1_use 1 = .ok (.iload_n 1, 1) := dk_27 (dk_at dksX1_use_0 1 rfl rfl)
theorem dX1_use_2 : decode cX1_use 2 = .ok (.invokevirtual 219, 3) := dk_182 0 219 (dk_at dksX1_use_0 2 rfl rfl)
theorem dX1_use_5 : decode cX1_use 5 = .ok (.ifCond .eq 15, 3) := dk_153 0 15 (dk_at dksX1_use_0 5 rfl rfl)
theorem dX1_use_8 : decode cX1_use 8 = .ok (.iload_n 2, 1) := dk_28 (dk_at dksX1_use_0 8 rfl rfl)
theorem dX1_use_9 : decode cX1_use 9 = .ok (.i2l, 1) := dk_133 (dk_at dksX1_use_0 9 rfl rfl)
theorem dX1_use_10 : decode cX1_use 10 = .ok (.lconst 0, 1) := dk_9 (dk_at dksX1_use_0 10 rfl rfl)
theorem dX1_use_11 : decode cX1_use 11 = .ok (.ldc2_w 270, 3) := dk_20 1 14 (dk_at dksX1_use_0 11 rfl rfl)
theorem dX1_use_14 : decode cX1_use 14 = .ok (.invokestatic 96, 3) := dk_184 0 96 (dk_at dksX1_use_0 14 rfl rfl)
theorem dX1_use_17 : decode cX1_use 17 = .ok (.ifCond .ne 5, 3) := dk_154 0 5 (dk_at dksX1_use_0 17 rfl rfl)
theorem dX1_use_20 : decode cX1_use 20 = .ok (.iconst 0, 1) := dk_3 (dk_at dksX1_use_0 20 rfl rfl)
theorem dX1_use_21 : decode cX1_use 21 = .ok (.ireturn, 1) := dk_172 (dk_at dksX1_use_0 21 rfl rfl)
theorem dX1_use_22 : decode cX1_use 22 = .ok (.aload_n 0, 1) := dk_42 (dk_at dksX1_use_0 22 rfl rfl)
theorem dX1_use_23 : decode cX1_use 23 = .ok (.getfield 65, 3) := dk_180 0 65 (dk_at dksX1_use_1 0 rfl rfl)
theorem dX1_use_26 : decode cX1_use 26 = .ok (.iload_n 1, 1) := dk_27 (dk_at dksX1_use_1 3 rfl rfl)
theorem dX1_use_27 : decode cX1_use 27 = .ok (.invokevirtual 222, 3) := dk_182 0 222 (dk_at dksX1_use_1 4 rfl rfl)
theorem dX1_use_30 : decode cX1_use 30 = .ok (.astore_n 3, 1) := dk_78 (dk_at dksX1_use_1 7 rfl rfl)
theorem dX1_use_31 : decode cX1_use 31 = .ok (.aload_n 3, 1) := dk_45 (dk_at dksX1_use_1 8 rfl rfl)
theorem dX1_use_32 : decode cX1_use 32 = .ok (.invokevirtual 285, 3) := dk_182 1 29 (dk_at dksX1_use_1 9 rfl rfl)
theorem dX1_use_35 : decode cX1_use 35 = .ok (.ifCond .eq 11, 3) := dk_153 0 11 (dk_at dksX1_use_1 12 rfl rfl)
theorem dX1_use_38 : decode cX1_use 38 = .ok (.aload_n 3, 1) := dk_45 (dk_at dksX1_use_1 15 rfl rfl)
theorem dX1_use_39 : decode cX1_use 39 = .ok (.getfield 238, 3) := dk_180 0 238 (dk_at dksX1_use_1 16 rfl rfl)
theorem dX1_use_42 : decode cX1_use 42 = .ok (.iconst (-1), 1) := dk_2 (dk_at dksX1_use_1 19 rfl rfl)
theorem dX1_use_43 : decode cX1_use 43 = .ok (.if_icmp .ne 5, 3) := dk_160 0 5 (dk_at dksX1_use_1 20 rfl rfl)
theorem dX1_use_46 : decode cX1_use 46 = .ok (.iconst 0, 1) := dk_3 (dk_at dksX1_use_1 23 rfl rfl)
theorem dX1_use_47 : decode cX1_use 47 = .ok (.ireturn, 1) := dk_172 (dk_at dksX1_use_2 0 rfl rfl)
theorem dX1_use_48 : decode cX1_use 48 = .ok (.aload_n 0, 1) := dk_42 (dk_at dksX1_use_2 1 rfl rfl)
theorem dX1_use_49 : decode cX1_use 49 = .ok (.invokevirtual 260, 3) := dk_182 1 4 (dk_at dksX1_use_2 2 rfl rfl)
theorem dX1_use_52 : decode cX1_use 52 = .ok (.aload_n 0, 1) := dk_42 (dk_at dksX1_use_2 5 rfl rfl)
theorem dX1_use_53 : decode cX1_use 53 = .ok (.getfield 65, 3) := dk_180 0 65 (dk_at dksX1_use_2 6 rfl rfl)
theorem dX1_use_56 : decode cX1_use 56 = .ok (.iload_n 1, 1) := dk_27 (dk_at dksX1_use_2 9 rfl rfl)
theorem dX1_use_57 : decode cX1_use 57 = .ok (.invokevirtual 222, 3) := dk_182 0 222 (dk_at dksX1_use_2 10 rfl rfl)
theorem dX1_use_60 : decode cX1_use 60 = .ok (.iload_n 2, 1) := dk_28 (dk_at dksX1_use_2 13 rfl rfl)
theorem dX1_use_61 : decode cX1_use 61 = .ok (.putfield 226, 3) := dk_181 0 226 (dk_at dksX1_use_2 14 rfl rfl)
theorem dX1_use_64 : decode cX1_use 64 = .ok (.iconst 1, 1) := dk_4 (dk_at dksX1_use_2 17 rfl rfl)
theorem dX1_use_65 : decode cX1_use 65 = .ok (.ireturn, 1) := dk_172 (dk_at dksX1_use_2 18 rfl rfl)
abbrev cX1_sell : ByteArray := prog_1_method_26_code
def yX1_sell : MethodName := ⟨RX1, "sell", "(III)I"⟩
def dkwX1_sell_4 : List UInt8 := [42, 180, 0, 65, 180, 0, 142, 182, 1, 37, 100, 172]
abbrev dktX1_sell_4 : List UInt8 := dkwX1_sell_4 ++ []
def dkwX1_sell_3 : List UInt8 := [182, 1, 4, 25, 4, 28, 181, 0, 241, 25, 4, 29, 181, 1, 34, 25, 4, 180, 0, 232, 4, 100, 25, 4]
abbrev dktX1_sell_3 : List UInt8 := dkwX1_sell_3 ++ dktX1_sell_4
def dkwX1_sell_2 : List UInt8 := [42, 180, 0, 65, 27, 182, 0, 222, 58, 4, 25, 4, 182, 1, 29, 154, 0, 6, 16, 254, 172, 42]
abbrev dktX1_sell_2 : List UInt8 := dkwX1_sell_2 ++ dktX1_sell_3
def dkwX1_sell_1 : List UInt8 := [20, 1, 32, 20, 1, 2, 184, 0, 96, 153, 0, 13, 28, 5, 160, 0, 10, 29, 2, 159, 0, 5, 2, 172]
abbrev dktX1_sell_1 : List UInt8 := dkwX1_sell_1 ++ dktX1_sell_2
def dkwX1_sell_0 : List UInt8 := [42, 27, 182, 0, 219, 153, 0, 39, 28, 133, 9, 20, 1, 14, 184, 0, 96, 153, 0, 27, 29, 133]
abbrev dktX1_sell_0 : List UInt8 := dkwX1_sell_0 ++ dktX1_sell_1
theorem dksX1_sell_0 : cX1_sell.data.toList.drop 0 = dktX1_sell_0 := by decide +kernel
theorem dksX1_sell_1 : cX1_sell.data.toList.drop 22 = dktX1_sell_1 := dk_seg dksX1_sell_0 22 rfl rfl
theorem dksX1_sell_2 : cX1_sell.data.toList.drop 46 = dktX1_sell_2 := dk_seg dksX1_sell_1 24 rfl rfl
theorem dksX1_sell_3 : cX1_sell.data.toList.drop 68 = dktX1_sell_3 := dk_seg dksX1_sell_2 22 rfl rfl
theorem dksX1_sell_4 : cX1_sell.data.toList.drop 92 = dktX1_sell_4 := dk_seg dksX1_sell_3 24 rfl rfl
theorem dX1_sell_0 : decode cX1_sell 0 = .ok (.aload_n 0, 1) := dk_42 (dk_at dksX1_sell_0 0 rfl rfl)
theorem dX1_sell_1 : decode cX1_sell 1 = .ok (.iload_n 1, 1) := dk_27 (dk_at dksX1_sell_0 1 rfl rfl)
theorem dX1_sell_2 : decode cX1_sell 2 = .ok (.invokevirtual 219, 3) := dk_182 0 219 (dk_at dksX1_sell_0 2 rfl rfl)
theorem dX1_sell_5 : decode cX1_sell 5 = .ok (.ifCond .eq 39, 3) := dk_153 0 39 (dk_at dksX1_sell_0 5 rfl rfl)
theorem dX1_sell_8 : decode cX1_sell 8 = .ok (.iload_n 2, 1) := dk_28 (dk_at dksX1_sell_0 8 rfl rfl)
theorem dX1_sell_9 : decode cX1_sell 9 = .ok (.i2l, 1) := dk_133 (dk_at dksX1_sell_0 9 rfl rfl)
theorem dX1_sell_10 : decode cX1_sell 10 = .ok (.lconst 0, 1) := dk_9 (dk_at dksX1_sell_0 10 rfl rfl)
theorem dX1_sell_11 : decode cX1_sell 11 = .ok (.ldc2_w 270, 3) := dk_20 1 14 (dk_at dksX1_sell_0 11 rfl rfl)
theorem dX1_sell_14 : decode cX1_sell 14 = .ok (.invokestatic 96, 3) := dk_184 0 96 (dk_at dksX1_sell_0 14 rfl rfl)
theorem dX1_sell_17 : decode cX1_sell 17 = .ok (.ifCond .eq 27, 3) := dk_153 0 27 (dk_at dksX1_sell_0 17 rfl rfl)
theorem dX1_sell_20 : decode cX1_sell 20 = .ok (.iload_n 3, 1) := dk_29 (dk_at dksX1_sell_0 20 rfl rfl)
theorem dX1_sell_21 : decode cX1_sell 21 = .ok (.i2l, 1) := dk_133 (dk_at dksX1_sell_0 21 rfl rfl)
theorem dX1_sell_22 : decode cX1_sell 22 = .ok (.ldc2_w 288, 3) := dk_20 1 32 (dk_at dksX1_sell_1 0 rfl rfl)
theorem dX1_sell_25 : decode cX1_sell 25 = .ok (.ldc2_w 258, 3) := dk_20 1 2 (dk_at dksX1_sell_1 3 rfl rfl)
theorem dX1_sell_28 : decode cX1_sell 28 = .ok (.invokestatic 96, 3) := dk_184 0 96 (dk_at dksX1_sell_1 6 rfl rfl)
theorem dX1_sell_31 : decode cX1_sell 31 = .ok (.ifCond .eq 13, 3) := dk_153 0 13 (dk_at dksX1_sell_1 9 rfl rfl)
theorem dX1_sell_34 : decode cX1_sell 34 = .ok (.iload_n 2, 1) := dk_28 (dk_at dksX1_sell_1 12 rfl rfl)
theorem dX1_sell_35 : decode cX1_sell 35 = .ok (.iconst 2, 1) := dk_5 (dk_at dksX1_sell_1 13 rfl rfl)
theorem dX1_sell_36 : decode cX1_sell 36 = .ok (.if_icmp .ne 10, 3) := dk_160 0 10 (dk_at dksX1_sell_1 14 rfl rfl)
theorem dX1_sell_39 : decode cX1_sell 39 = .ok (.iload_n 3, 1) := dk_29 (dk_at dksX1_sell_1 17 rfl rfl)
theorem dX1_sell_40 : decode cX1_sell 40 = .ok (.iconst (-1), 1) := dk_2 (dk_at dksX1_sell_1 18 rfl rfl)
theorem dX1_sell_41 : decode cX1_sell 41 = .ok (.if_icmp .eq 5, 3) := dk_159 0 5 (dk_at dksX1_sell_1 19 rfl rfl)
theorem dX1_sell_44 : decode cX1_sell 44 = .ok (.iconst (-1), 1) := dk_2 (dk_at dksX1_sell_1 22 rfl rfl)
theorem dX1_sell_45 : decode cX1_sell 45 = .ok (.ireturn, 1) := dk_172 (dk_at dksX1_sell_1 23 rfl rfl)
theorem dX1_sell_46 : decode cX1_sell 46 = .ok (.aload_n 0, 1) := dk_42 (dk_at dksX1_sell_2 0 rfl rfl)
theorem dX1_sell_47 : decode cX1_sell 47 = .ok (.getfield 65, 3) := dk_180 0 65 (dk_at dksX1_sell_2 1 rfl rfl)
theorem dX1_sell_50 : decode cX1_sell 50 = .ok (.iload_n 1, 1) := dk_27 (dk_at dksX1_sell_2 4 rfl rfl)
theorem dX1_sell_51 : decode cX1_sell 51 = .ok (.invokevirtual 222, 3) := dk_182 0 222 (dk_at dksX1_sell_2 5 rfl rfl)
theorem dX1_sell_54 : decode cX1_sell 54 = .ok (.astore 4, 2) := dk_58 4 (dk_at dksX1_sell_2 8 rfl rfl)
theorem dX1_sell_56 : decode cX1_sell 56 = .ok (.aload 4, 2) := dk_25 4 (dk_at dksX1_sell_2 10 rfl rfl)
theorem dX1_sell_58 : decode cX1_sell 58 = .ok (.invokevirtual 285, 3) := dk_182 1 29 (dk_at dksX1_sell_2 12 rfl rfl)
theorem dX1_sell_61 : decode cX1_sell 61 = .ok (.ifCond .ne 6, 3) := dk_154 0 6 (dk_at dksX1_sell_2 15 rfl rfl)
theorem dX1_sell_64 : decode cX1_sell 64 = .ok (.bipush (-2), 2) := dk_16 254 (dk_at dksX1_sell_2 18 rfl rfl)
theorem dX1_sell_66 : decode cX1_sell 66 = .ok (.ireturn, 1) := dk_172 (dk_at dksX1_sell_2 20 rfl rfl)
theorem dX1_sell_67 : decode cX1_sell 67 = .ok (.aload_n 0, 1) := dk_42 (dk_at dksX1_sell_2 21 rfl rfl)
theorem dX1_sell_68 : decode cX1_sell 68 = .ok (.invokevirtual 260, 3) := dk_182 1 4 (dk_at dksX1_sell_3 0 rfl rfl)
theorem dX1_sell_71 : decode cX1_sell 71 = .ok (.aload 4, 2) := dk_25 4 (dk_at dksX1_sell_3 3 rfl rfl)
theorem dX1_sell_73 : decode cX1_sell 73 = .ok (.iload_n 2, 1) := dk_28 (dk_at dksX1_sell_3 5 rfl rfl)
theorem dX1_sell_74 : decode cX1_sell 74 = .ok (.putfield 241, 3) := dk_181 0 241 (dk_at dksX1_sell_3 6 rfl rfl)
theorem dX1_sell_77 : decode cX1_sell 77 = .ok (.aload 4, 2) := dk_25 4 (dk_at dksX1_sell_3 9 rfl rfl)
theorem dX1_sell_79 : decode cX1_sell 79 = .ok (.iload_n 3, 1) := dk_29 (dk_at dksX1_sell_3 11 rfl rfl)
theorem dX1_sell_80 : decode cX1_sell 80 = .ok (.putfield 290, 3) := dk_181 1 34 (dk_at dksX1_sell_3 12 rfl rfl)
theorem dX1_sell_83 : decode cX1_sell 83 = .ok (.aload 4, 2) := dk_25 4 (dk_at dksX1_sell_3 15 rfl rfl)
theorem dX1_sell_85 : decode cX1_sell 85 = .ok (.getfield 232, 3) := dk_180 0 232 (dk_at dksX1_sell_3 17 rfl rfl)
theorem dX1_sell_88 : decode cX1_sell 88 = .ok (.iconst 1, 1) := dk_4 (dk_at dksX1_sell_3 20 rfl rfl)
theorem dX1_sell_89 : decode cX1_sell 89 = .ok (.isub, 1) := dk_100 (dk_at dksX1_sell_3 21 rfl rfl)
theorem dX1_sell_90 : decode cX1_sell 90 = .ok (.aload 4, 2) := dk_25 4 (dk_at dksX1_sell_3 22 rfl rfl)
theorem dX1_sell_92 : decode cX1_sell 92 = .ok (.aload_n 0, 1) := dk_42 (dk_at dksX1_sell_4 0 rfl rfl)
theorem dX1_sell_93 : decode cX1_sell 93 = .ok (.getfield 65, 3) := dk_180 0 65 (dk_at dksX1_sell_4 1 rfl rfl)
theorem dX1_sell_96 : decode cX1_sell 96 = .ok (.getfield 142, 3) := dk_180 0 142 (dk_at dksX1_sell_4 4 rfl rfl)
theorem dX1_sell_99 : decode cX1_sell 99 = .ok (.invokevirtual 293, 3) := dk_182 1 37 (dk_at dksX1_sell_4 7 rfl rfl)
theorem dX1_sell_102 : decode cX1_sell 102 = .ok (.isub, 1) := dk_100 (dk_at dksX1_sell_4 10 rfl rfl)
theorem dX1_sell_103 : decode cX1_sell 103 = .ok (.ireturn, 1) := dk_172 (dk_at dksX1_sell_4 11 rfl rfl)
abbrev cX1_hand : ByteArray := prog_1_method_27_code
def yX1_hand : MethodName := ⟨RX1, "hand", "(II)I"⟩
def dkwX1_hand_2 : List UInt8 := [45, 28, 181, 0, 151, 21, 4, 172]
abbrev dktX1_hand_2 : List UInt8 := dkwX1_hand_2 ++ []
def dkwX1_hand_1 : List UInt8 := [182, 0, 222, 78, 45, 182, 1, 29, 154, 0, 6, 16, 254, 172, 42, 182, 1, 4, 45, 180, 0, 151, 54, 4]
abbrev dktX1_hand_1 : List UInt8 := dkwX1_hand_1 ++ dktX1_hand_2
def dkwX1_hand_0 : List UInt8 := [42, 27, 182, 0, 219, 153, 0, 11, 42, 28, 182, 0, 185, 154, 0, 5, 2, 172, 42, 180, 0, 65, 27]
abbrev dktX1_hand_0 : List UInt8 := dkwX1_hand_0 ++ dktX1_hand_1
theorem dksX1_hand_0 : cX1_hand.data.toList.drop 0 = dktX1_hand_0 := by decide +kernel
theorem dksX1_hand_1 : cX1_hand.data.toList.drop 23 = dktX1_hand_1 := dk_seg dksX1_hand_0 23 rfl rfl
theorem dksX1_hand_2 : cX1_hand.data.toList.drop 47 = dktX1_hand_2 := dk_seg dksX1_hand_1 24 rfl rfl
theorem dX1_hand_0 : decode cX1_hand 0 = .ok (.aload_n 0, 1) := dk_42 (dk_at dksX1_hand_0 0 rfl rfl)
theorem dX1_hand_1 : decode cX1_hand 1 = .ok (.iload_n 1, 1) := dk_27 (dk_at dksX1_hand_0 1 rfl rfl)
theorem dX1_hand_2 : decode cX1_hand 2 = .ok (.invokevirtual 219, 3) := dk_182 0 219 (dk_at dksX1_hand_0 2 rfl rfl)
theorem dX1_hand_5 : decode cX1_hand 5 = .ok (.ifCond .eq 11, 3) := dk_153 0 11 (dk_at dksX1_hand_0 5 rfl rfl)
theorem dX1_hand_8 : decode cX1_hand 8 = .ok (.aload_n 0, 1) := dk_42 (dk_at dksX1_hand_0 8 rfl rfl)
theorem dX1_hand_9 : decode cX1_hand 9 = .ok (.iload_n 2, 1) := dk_28 (dk_at dksX1_hand_0 9 rfl rfl)
theorem dX1_hand_10 : decode cX1_hand 10 = .ok (.invokevirtual 185, 3) := dk_182 0 185 (dk_at dksX1_hand_0 10 rfl rfl)
theorem dX1_hand_13 : decode cX1_hand 13 = .ok (.ifCond .ne 5, 3) := dk_154 0 5 (dk_at dksX1_hand_0 13 rfl rfl)
theorem dX1_hand_16 : decode cX1_hand 16 = .ok (.iconst (-1), 1) := dk_2 (dk_at dksX1_hand_0 16 rfl rfl)
theorem dX1_hand_17 : decode cX1_hand 17 = .ok (.ireturn, 1) := dk_172 (dk_at dksX1_hand_0 17 rfl rfl)
theorem dX1_hand_18 : decode cX1_hand 18 = .ok (.aload_n 0, 1) := dk_42 (dk_at dksX1_hand_0 18 rfl rfl)
theorem dX1_hand_19 : decode cX1_hand 19 = .ok (.getfield 65, 3) := dk_180 0 65 (dk_at dksX1_hand_0 19 rfl rfl)
theorem dX1_hand_22 : decode cX1_hand 22 = .ok (.iload_n 1, 1) := dk_27 (dk_at dksX1_hand_0 22 rfl rfl)
theorem dX1_hand_23 : decode cX1_hand 23 = .ok (.invokevirtual 222, 3) := dk_182 0 222 (dk_at dksX1_hand_1 0 rfl rfl)
theorem dX1_hand_26 : decode cX1_hand 26 = .ok (.astore_n 3, 1) := dk_78 (dk_at dksX1_hand_1 3 rfl rfl)
theorem dX1_hand_27 : decode cX1_hand 27 = .ok (.aload_n 3, 1) := dk_45 (dk_at dksX1_hand_1 4 rfl rfl)
theorem dX1_hand_28 : decode cX1_hand 28 = .ok (.invokevirtual 285, 3) := dk_182 1 29 (dk_at dksX1_hand_1 5 rfl rfl)
theorem dX1_hand_31 : decode cX1_hand 31 = .ok (.ifCond .ne 6, 3) := dk_154 0 6 (dk_at dksX1_hand_1 8 rfl rfl)
theorem dX1_hand_34 : decode cX1_hand 34 = .ok (.bipush (-2), 2) := dk_16 254 (dk_at dksX1_hand_1 11 rfl rfl)
theorem dX1_hand_36 : decode cX1_hand 36 = .ok (.ireturn, 1) := dk_172 (dk_at dksX1_hand_1 13 rfl rfl)
theorem dX1_hand_37 : decode cX1_hand 37 = .ok (.aload_n 0, 1) := dk_42 (dk_at dksX1_hand_1 14 rfl rfl)
theorem dX1_hand_38 : decode cX1_hand 38 = .ok (.invokevirtual 260, 3) := dk_182 1 4 (dk_at dksX1_hand_1 15 rfl rfl)
theorem dX1_hand_41 : decode cX1_hand 41 = .ok (.aload_n 3, 1) := dk_45 (dk_at dksX1_hand_1 18 rfl rfl)
theorem dX1_hand_42 : decode cX1_hand 42 = .ok (.getfield 151, 3) := dk_180 0 151 (dk_at dksX1_hand_1 19 rfl rfl)
theorem dX1_hand_45 : decode cX1_hand 45 = .ok (.istore 4, 2) := dk_54 4 (dk_at dksX1_hand_1 22 rfl rfl)
theorem dX1_hand_47 : decode cX1_hand 47 = .ok (.aload_n 3, 1) := dk_45 (dk_at dksX1_hand_2 0 rfl rfl)
theorem dX1_hand_48 : decode cX1_hand 48 = .ok (.iload_n 2, 1) := dk_28 (dk_at dksX1_hand_2 1 rfl rfl)
theorem dX1_hand_49 : decode cX1_hand 49 = .ok (.putfield 151, 3) := dk_181 0 151 (dk_at dksX1_hand_2 2 rfl rfl)
theorem dX1_hand_52 : decode cX1_hand 52 = .ok (.iload 4, 2) := dk_21 4 (dk_at dksX1_hand_2 5 rfl rfl)
theorem dX1_hand_54 : decode cX1_hand 54 = .ok (.ireturn, 1) := dk_172 (dk_at dksX1_hand_2 7 rfl rfl)
abbrev cX1_close : ByteArray := prog_1_method_29_code
def yX1_close : MethodName := ⟨RX1, "close", "(I)I"⟩
def dkwX1_close_2 : List UInt8 := [182, 1, 48, 87, 132, 3, 1, 167, 255, 240, 42, 180, 0, 65, 180, 1, 45, 28, 100, 172]
abbrev dktX1_close_2 : List UInt8 := dkwX1_close_2 ++ []
def dkwX1_close_1 : List UInt8 := [172, 42, 182, 1, 4, 42, 180, 0, 65, 180, 1, 45, 61, 3, 62, 29, 27, 162, 0, 17, 42, 180, 0, 65]
abbrev dktX1_close_1 : List UInt8 := dkwX1_close_1 ++ dktX1_close_2
def dkwX1_close_0 : List UInt8 := [27, 133, 10, 20, 1, 40, 184, 0, 96, 154, 0, 5, 2, 172, 42, 27, 182, 1, 42, 154, 0, 6, 16, 254]
abbrev dktX1_close_0 : List UInt8 := dkwX1_close_0 ++ dktX1_close_1
theorem dksX1_close_0 : cX1_close.data.toList.drop 0 = dktX1_close_0 := by decide +kernel
theorem dksX1_close_1 : cX1_close.data.toList.drop 24 = dktX1_close_1 := dk_seg dksX1_close_0 24 rfl rfl
theorem dksX1_close_2 : cX1_close.data.toList.drop 48 = dktX1_close_2 := dk_seg dksX1_close_1 24 rfl rfl
theorem dX1_close_0 : decode cX1_close 0 = .ok (.iload_n 1, 1) := dk_27 (dk_at dksX1_close_0 0 rfl rfl)
theorem dX1_close_1 : decode cX1_close 1 = .ok (.i2l, 1) := dk_133 (dk_at dksX1_close_0 1 rfl rfl)
theorem dX1_close_2 : decode cX1_close 2 = .ok (.lconst 1, 1) := dk_10 (dk_at dksX1_close_0 2 rfl rfl)
theorem dX1_close_3 : decode cX1_close 3 = .ok (.ldc2_w 296, 3) := dk_20 1 40 (dk_at dksX1_close_0 3 rfl rfl)
theorem dX1_close_6 : decode cX1_close 6 = .ok (.invokestatic 96, 3) := dk_184 0 96 (dk_at dksX1_close_0 6 rfl rfl)
theorem dX1_close_9 : decode cX1_close 9 = .ok (.ifCond .ne 5, 3) := dk_154 0 5 (dk_at dksX1_close_0 9 rfl rfl)
theorem dX1_close_12 : decode cX1_close 12 = .ok (.iconst (-1), 1) := dk_2 (dk_at dksX1_close_0 12 rfl rfl)
theorem dX1_close_13 : decode cX1_close 13 = .ok (.ireturn, 1) := dk_172 (dk_at dksX1_close_0 13 rfl rfl)
theorem dX1_close_14 : decode cX1_close 14 = .ok (.aload_n 0, 1) := dk_42 (dk_at dksX1_close_0 14 rfl rfl)
theorem dX1_close_15 : decode cX1_close 15 = .ok (.iload_n 1, 1) := dk_27 (dk_at dksX1_close_0 15 rfl rfl)
theorem dX1_close_16 : decode cX1_close 16 = .ok (.invokevirtual 298, 3) := dk_182 1 42 (dk_at dksX1_close_0 16 rfl rfl)
theorem dX1_close_19 : decode cX1_close 19 = .ok (.ifCond .ne 6, 3) := dk_154 0 6 (dk_at dksX1_close_0 19 rfl rfl)
theorem dX1_close_22 : decode cX1_close 22 = .ok (.bipush (-2), 2) := dk_16 254 (dk_at dksX1_close_0 22 rfl rfl)
theorem dX1_close_24 : decode cX1_close 24 = .ok (.ireturn, 1) := dk_172 (dk_at dksX1_close_1 0 rfl rfl)
theorem dX1_close_25 : decode cX1_close 25 = .ok (.aload_n 0, 1) := dk_42 (dk_at dksX1_close_1 1 rfl rfl)
theorem dX1_close_26 : decode cX1_close 26 = .ok (.invokevirtual 260, 3) := dk_182 1 4 (dk_at dksX1_close_1 2 rfl rfl)
theorem dX1_close_29 : decode cX1_close 29 = .ok (.aload_n 0, 1) := dk_42 (dk_at dksX1_close_1 5 rfl rfl)
theorem dX1_close_30 : decode cX1_close 30 = .ok (.getfield 65, 3) := dk_180 0 65 (dk_at dksX1_close_1 6 rfl rfl)
theorem dX1_close_33 : decode cX1_close 33 = .ok (.getfield 301, 3) := dk_180 1 45 (dk_at dksX1_close_1 9 rfl rfl)
theorem dX1_close_36 : decode cX1_close 36 = .ok (.istore_n 2, 1) := dk_61 (dk_at dksX1_close_1 12 rfl rfl)
theorem dX1_close_37 : decode cX1_close 37 = .ok (.iconst 0, 1) := dk_3 (dk_at dksX1_close_1 13 rfl rfl)
theorem dX1_close_38 : decode cX1_close 38 = .ok (.istore_n 3, 1) := dk_62 (dk_at dksX1_close_1 14 rfl rfl)
theorem dX1_close_39 : decode cX1_close 39 = .ok (.iload_n 3, 1) := dk_29 (dk_at dksX1_close_1 15 rfl rfl)
theorem dX1_close_40 : decode cX1_close 40 = .ok (.iload_n 1, 1) := dk_27 (dk_at dksX1_close_1 16 rfl rfl)
theorem dX1_close_41 : decode cX1_close 41 = .ok (.if_icmp .ge 17, 3) := dk_162 0 17 (dk_at dksX1_close_1 17 rfl rfl)
theorem dX1_close_44 : decode cX1_close 44 = .ok (.aload_n 0, 1) := dk_42 (dk_at dksX1_close_1 20 rfl rfl)
theorem dX1_close_45 : decode cX1_close 45 = .ok (.getfield 65, 3) := dk_180 0 65 (dk_at dksX1_close_1 21 rfl rfl)
theorem dX1_close_48 : decode cX1_close 48 = .ok (.invokevirtual 304, 3) := dk_182 1 48 (dk_at dksX1_close_2 0 rfl rfl)
theorem dX1_close_51 : decode cX1_close 51 = .ok (.pop, 1) := dk_87 (dk_at dksX1_close_2 3 rfl rfl)
theorem dX1_close_52 : decode cX1_close 52 = .ok (.iinc 3 1, 3) := dk_132 3 1 (dk_at dksX1_close_2 4 rfl rfl)
theorem dX1_close_55 : decode cX1_close 55 = .ok (.goto (-16), 3) := dk_167 255 240 (dk_at dksX1_close_2 7 rfl rfl)
theorem dX1_close_58 : decode cX1_close 58 = .ok (.aload_n 0, 1) := dk_42 (dk_at dksX1_close_2 10 rfl rfl)
theorem dX1_close_59 : decode cX1_close 59 = .ok (.getfield 65, 3) := dk_180 0 65 (dk_at dksX1_close_2 11 rfl rfl)
theorem dX1_close_62 : decode cX1_close 62 = .ok (.getfield 301, 3) := dk_180 1 45 (dk_at dksX1_close_2 14 rfl rfl)
theorem dX1_close_65 : decode cX1_close 65 = .ok (.iload_n 2, 1) := dk_28 (dk_at dksX1_close_2 17 rfl rfl)
theorem dX1_close_66 : decode cX1_close 66 = .ok (.isub, 1) := dk_100 (dk_at dksX1_close_2 18 rfl rfl)
theorem dX1_close_67 : decode cX1_close 67 = .ok (.ireturn, 1) := dk_172 (dk_at dksX1_close_2 19 rfl rfl)
abbrev cX1_canClose : ByteArray := prog_1_method_28_code
def yX1_canClose : MethodName := ⟨RX1, "canClose", "(I)Z"⟩
def dkwX1_canClose_0 : List UInt8 := [42, 180, 0, 65, 180, 0, 142, 27, 96, 16, 64, 162, 0, 7, 4, 167, 0, 4, 3, 172]
abbrev dktX1_canClose_0 : List UInt8 := dkwX1_canClose_0 ++ []
theorem dksX1_canClose_0 : cX1_canClose.data.toList.drop 0 = dktX1_canClose_0 := by decide +kernel
theorem dX1_canClose_0 : decode cX1_canClose 0 = .ok (.aload_n 0, 1) := dk_42 (dk_at dksX1_canClose_0 0 rfl rfl)
theorem dX1_canClose_1 : decode cX1_canClose 1 = .ok (.getfield 65, 3) := dk_180 0 65 (dk_at dksX1_canClose_0 1 rfl rfl)
theorem dX1_canClose_4 : decode cX1_canClose 4 = .ok (.getfield 142, 3) := dk_180 0 142 (dk_at dksX1_canClose_0 4 rfl rfl)
theorem dX1_canClose_7 : decode cX1_canClose 7 = .ok (.iload_n 1, 1) := dk_27 (dk_at dksX1_canClose_0 7 rfl rfl)
theorem dX1_canClose_8 : decode cX1_canClose 8 = .ok (.iadd, 1) := dk_96 (dk_at dksX1_canClose_0 8 rfl rfl)
theorem dX1_canClose_9 : decode cX1_canClose 9 = .ok (.bipush 64, 2) := dk_16 64 (dk_at dksX1_canClose_0 9 rfl rfl)
theorem dX1_canClose_11 : decode cX1_canClose 11 = .ok (.if_icmp .ge 7, 3) := dk_162 0 7 (dk_at dksX1_canClose_0 11 rfl rfl)
theorem dX1_canClose_14 : decode cX1_canClose 14 = .ok (.iconst 1, 1) := dk_4 (dk_at dksX1_canClose_0 14 rfl rfl)
theorem dX1_canClose_15 : decode cX1_canClose 15 = .ok (.goto 4, 3) := dk_167 0 4 (dk_at dksX1_canClose_0 15 rfl rfl)
theorem dX1_canClose_18 : decode cX1_canClose 18 = .ok (.iconst 0, 1) := dk_3 (dk_at dksX1_canClose_0 18 rfl rfl)
theorem dX1_canClose_19 : decode cX1_canClose 19 = .ok (.ireturn, 1) := dk_172 (dk_at dksX1_canClose_0 19 rfl rfl)
abbrev cX1_sum : ByteArray := prog_1_method_30_code
def yX1_sum : MethodName := ⟨RX1, "sum", "(III)I"⟩
def dkwX1_sum_2 : List UInt8 := [172]
abbrev dktX1_sum_2 : List UInt8 := dkwX1_sum_2 ++ []
def dkwX1_sum_1 : List UInt8 := [153, 0, 23, 42, 180, 0, 65, 180, 1, 7, 27, 50, 28, 50, 180, 1, 11, 29, 47, 136, 167, 0, 4, 2]
abbrev dktX1_sum_1 : List UInt8 := dkwX1_sum_1 ++ dktX1_sum_2
def dkwX1_sum_0 : List UInt8 := [42, 27, 182, 0, 185, 153, 0, 42, 28, 184, 1, 51, 153, 0, 35, 29, 133, 9, 20, 1, 18, 184, 0, 96]
abbrev dktX1_sum_0 : List UInt8 := dkwX1_sum_0 ++ dktX1_sum_1
theorem dksX1_sum_0 : cX1_sum.data.toList.drop 0 = dktX1_sum_0 := by decide +kernel
theorem dksX1_sum_1 : cX1_sum.data.toList.drop 24 = dktX1_sum_1 := dk_seg dksX1_sum_0 24 rfl rfl
theorem dksX1_sum_2 : cX1_sum.data.toList.drop 48 = dktX1_sum_2 := dk_seg dksX1_sum_1 24 rfl rfl
theorem dX1_sum_0 : decode cX1_sum 0 = .ok (.aload_n 0, 1) := dk_42 (dk_at dksX1_sum_0 0 rfl rfl)
theorem dX1_sum_1 : decode cX1_sum 1 = .ok (.iload_n 1, 1) := dk_27 (dk_at dksX1_sum_0 1 rfl rfl)
theorem dX1_sum_2 : decode cX1_sum 2 = .ok (.invokevirtual 185, 3) := dk_182 0 185 (dk_at dksX1_sum_0 2 rfl rfl)
theorem dX1_sum_5 : decode cX1_sum 5 = .ok (.ifCond .eq 42, 3) := dk_153 0 42 (dk_at dksX1_sum_0 5 rfl rfl)
theorem dX1_sum_8 : decode cX1_sum 8 = .ok (.iload_n 2, 1) := dk_28 (dk_at dksX1_sum_0 8 rfl rfl)
theorem dX1_sum_9 : decode cX1_sum 9 = .ok (.invokestatic 307, 3) := dk_184 1 51 (dk_at dksX1_sum_0 9 rfl rfl)
theorem dX1_sum_12 : decode cX1_sum 12 = .ok (.ifCond .eq 35, 3) := dk_153 0 35 (dk_at dksX1_sum_0 12 rfl rfl)
theorem dX1_sum_15 : decode cX1_sum 15 = .ok (.iload_n 3, 1) := dk_29 (dk_at dksX1_sum_0 15 rfl rfl)
theorem dX1_sum_16 : decode cX1_sum 16 = .ok (.i2l, 1) := dk_133 (dk_at dksX1_sum_0 16 rfl rfl)
theorem dX1_sum_17 : decode cX1_sum 17 = .ok (.lconst 0, 1) := dk_9 (dk_at dksX1_sum_0 17 rfl rfl)
theorem dX1_sum_18 : decode cX1_sum 18 = .ok (.ldc2_w 274, 3) := dk_20 1 18 (dk_at dksX1_sum_0 18 rfl rfl)
theorem dX1_sum_21 : decode cX1_sum 21 = .ok (.invokestatic 96, 3) := dk_184 0 96 (dk_at dksX1_sum_0 21 rfl rfl)
theorem dX1_sum_24 : decode cX1_sum 24 = .ok (.ifCond .eq 23, 3) := dk_153 0 23 (dk_at dksX1_sum_1 0 rfl rfl)
theorem dX1_sum_27 : decode cX1_sum 27 = .ok (.aload_n 0, 1) := dk_42 (dk_at dksX1_sum_1 3 rfl rfl)
theorem dX1_sum_28 : decode cX1_sum 28 = .ok (.getfield 65, 3) := dk_180 0 65 (dk_at dksX1_sum_1 4 rfl rfl)
theorem dX1_sum_31 : decode cX1_sum 31 = .ok (.getfield 263, 3) := dk_180 1 7 (dk_at dksX1_sum_1 7 rfl rfl)
theorem dX1_sum_34 : decode cX1_sum 34 = .ok (.iload_n 1, 1) := dk_27 (dk_at dksX1_sum_1 10 rfl rfl)
theorem dX1_sum_35 : decode cX1_sum 35 = .ok (.aaload, 1) := dk_50 (dk_at dksX1_sum_1 11 rfl rfl)
theorem dX1_sum_36 : decode cX1_sum 36 = .ok (.iload_n 2, 1) := dk_28 (dk_at dksX1_sum_1 12 rfl rfl)
theorem dX1_sum_37 : decode cX1_sum 37 = .ok (.aaload, 1) := dk_50 (dk_at dksX1_sum_1 13 rfl rfl)
theorem dX1_sum_38 : decode cX1_sum 38 = .ok (.getfield 267, 3) := dk_180 1 11 (dk_at dksX1_sum_1 14 rfl rfl)
theorem dX1_sum_41 : decode cX1_sum 41 = .ok (.iload_n 3, 1) := dk_29 (dk_at dksX1_sum_1 17 rfl rfl)
theorem dX1_sum_42 : decode cX1_sum 42 = .ok (.laload, 1) := dk_47 (dk_at dksX1_sum_1 18 rfl rfl)
theorem dX1_sum_43 : decode cX1_sum 43 = .ok (.l2i, 1) := dk_136 (dk_at dksX1_sum_1 19 rfl rfl)
theorem dX1_sum_44 : decode cX1_sum 44 = .ok (.goto 4, 3) := dk_167 0 4 (dk_at dksX1_sum_1 20 rfl rfl)
theorem dX1_sum_47 : decode cX1_sum 47 = .ok (.iconst (-1), 1) := dk_2 (dk_at dksX1_sum_1 23 rfl rfl)
theorem dX1_sum_48 : decode cX1_sum 48 = .ok (.ireturn, 1) := dk_172 (dk_at dksX1_sum_2 0 rfl rfl)
abbrev cX1_isQuarter : ByteArray := prog_1_method_13_code
def yX1_isQuarter : MethodName := ⟨RX1, "isQuarter", "(I)Z"⟩
def dkwX1_isQuarter_0 : List UInt8 := [26, 133, 9, 20, 0, 140, 184, 0, 96, 172]
abbrev dktX1_isQuarter_0 : List UInt8 := dkwX1_isQuarter_0 ++ []
theorem dksX1_isQuarter_0 : cX1_isQuarter.data.toList.drop 0 = dktX1_isQuarter_0 := by decide +kernel
theorem dX1_isQuarter_0 : decode cX1_isQuarter 0 = .ok (.iload_n 0, 1) := dk_26 (dk_at dksX1_isQuarter_0 0 rfl rfl)
theorem dX1_isQuarter_1 : decode cX1_isQuarter 1 = .ok (.i2l, 1) := dk_133 (dk_at dksX1_isQuarter_0 1 rfl rfl)
theorem dX1_isQuarter_2 : decode cX1_isQuarter 2 = .ok (.lconst 0, 1) := dk_9 (dk_at dksX1_isQuarter_0 2 rfl rfl)
theorem dX1_isQuarter_3 : decode cX1_isQuarter 3 = .ok (.ldc2_w 140, 3) := dk_20 0 140 (dk_at dksX1_isQuarter_0 3 rfl rfl)
theorem dX1_isQuarter_6 : decode cX1_isQuarter 6 = .ok (.invokestatic 96, 3) := dk_184 0 96 (dk_at dksX1_isQuarter_0 6 rfl rfl)
theorem dX1_isQuarter_9 : decode cX1_isQuarter 9 = .ok (.ireturn, 1) := dk_172 (dk_at dksX1_isQuarter_0 9 rfl rfl)
abbrev cX1_provisional : ByteArray := prog_1_method_31_code
def yX1_provisional : MethodName := ⟨RX1, "provisional", "(II)I"⟩
def dkwX1_provisional_1 : List UInt8 := [180, 0, 142, 164, 0, 8, 16, 254, 167, 0, 12, 42, 180, 0, 65, 27, 28, 182, 1, 54, 172]
abbrev dktX1_provisional_1 : List UInt8 := dkwX1_provisional_1 ++ []
def dkwX1_provisional_0 : List UInt8 := [42, 27, 182, 0, 185, 153, 0, 10, 28, 184, 1, 51, 154, 0, 5, 2, 172, 28, 42, 180, 0, 65]
abbrev dktX1_provisional_0 : List UInt8 := dkwX1_provisional_0 ++ dktX1_provisional_1
theorem dksX1_provisional_0 : cX1_provisional.data.toList.drop 0 = dktX1_provisional_0 := by decide +kernel
theorem dksX1_provisional_1 : cX1_provisional.data.toList.drop 22 = dktX1_provisional_1 := dk_seg dksX1_provisional_0 22 rfl rfl
theorem dX1_provisional_0 : decode cX1_provisional 0 = .ok (.aload_n 0, 1) := dk_42 (dk_at dksX1_provisional_0 0 rfl rfl)
theorem dX1_provisional_1 : decode cX1_provisional 1 = .ok (.iload_n 1, 1) := dk_27 (dk_at dksX1_provisional_0 1 rfl rfl)
theorem dX1_provisional_2 : decode cX1_provisional 2 = .ok (.invokevirtual 185, 3) := dk_182 0 185 (dk_at dksX1_provisional_0 2 rfl rfl)
theorem dX1_provisional_5 : decode cX1_provisional 5 = .ok (.ifCond .eq 10, 3) := dk_153 0 10 (dk_at dksX1_provisional_0 5 rfl rfl)
theorem dX1_provisional_8 : decode cX1_provisional 8 = .ok (.iload_n 2, 1) := dk_28 (dk_at dksX1_provisional_0 8 rfl rfl)
theorem dX1_provisional_9 : decode cX1_provisional 9 = .ok (.invokestatic 307, 3) := dk_184 1 51 (dk_at dksX1_provisional_0 9 rfl rfl)
theorem dX1_provisional_12 : decode cX1_provisional 12 = .ok (.ifCond .ne 5, 3) := dk_154 0 5 (dk_at dksX1_provisional_0 12 rfl rfl)
theorem dX1_provisional_15 : decode cX1_provisional 15 = .ok (.iconst (-1), 1) := dk_2 (dk_at dksX1_provisional_0 15 rfl rfl)
theorem dX1_provisional_16 : decode cX1_provisional 16 = .ok (.ireturn, 1) := dk_172 (dk_at dksX1_provisional_0 16 rfl rfl)
theorem dX1_provisional_17 : decode cX1_provisional 17 = .ok (.iload_n 2, 1) := dk_28 (dk_at dksX1_provisional_0 17 rfl rfl)
theorem dX1_provisional_18 : decode cX1_provisional 18 = .ok (.aload_n 0, 1) := dk_42 (dk_at dksX1_provisional_0 18 rfl rfl)
theorem dX1_provisional_19 : decode cX1_provisional 19 = .ok (.getfield 65, 3) := dk_180 0 65 (dk_at dksX1_provisional_0 19 rfl rfl)
theorem dX1_provisional_22 : decode cX1_provisional 22 = .ok (.getfield 142, 3) := dk_180 0 142 (dk_at dksX1_provisional_1 0 rfl rfl)
theorem dX1_provisional_25 : decode cX1_provisional 25 = .ok (.if_icmp .le 8, 3) := dk_164 0 8 (dk_at dksX1_provisional_1 3 rfl rfl)
theorem dX1_provisional_28 : decode cX1_provisional 28 = .ok (.bipush (-2), 2) := dk_16 254 (dk_at dksX1_provisional_1 6 rfl rfl)
theorem dX1_provisional_30 : decode cX1_provisional 30 = .ok (.goto 12, 3) := dk_167 0 12 (dk_at dksX1_provisional_1 8 rfl rfl)
theorem dX1_provisional_33 : decode cX1_provisional 33 = .ok (.aload_n 0, 1) := dk_42 (dk_at dksX1_provisional_1 11 rfl rfl)
theorem dX1_provisional_34 : decode cX1_provisional 34 = .ok (.getfield 65, 3) := dk_180 0 65 (dk_at dksX1_provisional_1 12 rfl rfl)
theorem dX1_provisional_37 : decode cX1_provisional 37 = .ok (.iload_n 1, 1) := dk_27 (dk_at dksX1_provisional_1 15 rfl rfl)
theorem dX1_provisional_38 : decode cX1_provisional 38 = .ok (.iload_n 2, 1) := dk_28 (dk_at dksX1_provisional_1 16 rfl rfl)
theorem dX1_provisional_39 : decode cX1_provisional 39 = .ok (.invokevirtual 310, 3) := dk_182 1 54 (dk_at dksX1_provisional_1 17 rfl rfl)
theorem dX1_provisional_42 : decode cX1_provisional 42 = .ok (.ireturn, 1) := dk_172 (dk_at dksX1_provisional_1 20 rfl rfl)
abbrev cX1_recovered : ByteArray := prog_1_method_32_code
def yX1_recovered : MethodName := ⟨RX1, "recovered", "(II)I"⟩
def dkwX1_recovered_1 : List UInt8 := [180, 0, 142, 162, 0, 17, 42, 180, 0, 65, 180, 1, 58, 27, 50, 28, 46, 167, 0, 5, 16, 254, 172]
abbrev dktX1_recovered_1 : List UInt8 := dkwX1_recovered_1 ++ []
def dkwX1_recovered_0 : List UInt8 := [42, 27, 182, 0, 185, 153, 0, 10, 28, 184, 1, 51, 154, 0, 5, 2, 172, 28, 42, 180, 0, 65]
abbrev dktX1_recovered_0 : List UInt8 := dkwX1_recovered_0 ++ dktX1_recovered_1
theorem dksX1_recovered_0 : cX1_recovered.data.toList.drop 0 = dktX1_recovered_0 := by decide +kernel
theorem dksX1_recovered_1 : cX1_recovered.data.toList.drop 22 = dktX1_recovered_1 := dk_seg dksX1_recovered_0 22 rfl rfl
theorem dX1_recovered_0 : decode cX1_recovered 0 = .ok (.aload_n 0, 1) := dk_42 (dk_at dksX1_recovered_0 0 rfl rfl)
theorem dX1_recovered_1 : decode cX1_recovered 1 = .ok (.iload_n 1, 1) := dk_27 (dk_at dksX1_recovered_0 1 rfl rfl)
theorem dX1_recovered_2 : decode cX1_recovered 2 = .ok (.invokevirtual 185, 3) := dk_182 0 185 (dk_at dksX1_recovered_0 2 rfl rfl)
theorem dX1_recovered_5 : decode cX1_recovered 5 = .ok (.ifCond .eq 10, 3) := dk_153 0 10 (dk_at dksX1_recovered_0 5 rfl rfl)
theorem dX1_recovered_8 : decode cX1_recovered 8 = .ok (.iload_n 2, 1) := dk_28 (dk_at dksX1_recovered_0 8 rfl rfl)
theorem dX1_recovered_9 : decode cX1_recovered 9 = .ok (.invokestatic 307, 3) := dk_184 1 51 (dk_at dksX1_recovered_0 9 rfl rfl)
theorem dX1_recovered_12 : decode cX1_recovered 12 = .ok (.ifCond .ne 5, 3) := dk_154 0 5 (dk_at dksX1_recovered_0 12 rfl rfl)
theorem dX1_recovered_15 : decode cX1_recovered 15 = .ok (.iconst (-1), 1) := dk_2 (dk_at dksX1_recovered_0 15 rfl rfl)
theorem dX1_recovered_16 : decode cX1_recovered 16 = .ok (.ireturn, 1) := dk_172 (dk_at dksX1_recovered_0 16 rfl rfl)
theorem dX1_recovered_17 : decode cX1_recovered 17 = .ok (.iload_n 2, 1) := dk_28 (dk_at dksX1_recovered_0 17 rfl rfl)
theorem dX1_recovered_18 : decode cX1_recovered 18 = .ok (.aload_n 0, 1) := dk_42 (dk_at dksX1_recovered_0 18 rfl rfl)
theorem dX1_recovered_19 : decode cX1_recovered 19 = .ok (.getfield 65, 3) := dk_180 0 65 (dk_at dksX1_recovered_0 19 rfl rfl)
theorem dX1_recovered_22 : decode cX1_recovered 22 = .ok (.getfield 142, 3) := dk_180 0 142 (dk_at dksX1_recovered_1 0 rfl rfl)
theorem dX1_recovered_25 : decode cX1_recovered 25 = .ok (.if_icmp .ge 17, 3) := dk_162 0 17 (dk_at dksX1_recovered_1 3 rfl rfl)
theorem dX1_recovered_28 : decode cX1_recovered 28 = .ok (.aload_n 0, 1) := dk_42 (dk_at dksX1_recovered_1 6 rfl rfl)
theorem dX1_recovered_29 : decode cX1_recovered 29 = .ok (.getfield 65, 3) := dk_180 0 65 (dk_at dksX1_recovered_1 7 rfl rfl)
theorem dX1_recovered_32 : decode cX1_recovered 32 = .ok (.getfield 314, 3) := dk_180 1 58 (dk_at dksX1_recovered_1 10 rfl rfl)
theorem dX1_recovered_35 : decode cX1_recovered 35 = .ok (.iload_n 1, 1) := dk_27 (dk_at dksX1_recovered_1 13 rfl rfl)
theorem dX1_recovered_36 : decode cX1_recovered 36 = .ok (.aaload, 1) := dk_50 (dk_at dksX1_recovered_1 14 rfl rfl)
theorem dX1_recovered_37 : decode cX1_recovered 37 = .ok (.iload_n 2, 1) := dk_28 (dk_at dksX1_recovered_1 15 rfl rfl)
theorem dX1_recovered_38 : decode cX1_recovered 38 = .ok (.iaload, 1) := dk_46 (dk_at dksX1_recovered_1 16 rfl rfl)
theorem dX1_recovered_39 : decode cX1_recovered 39 = .ok (.goto 5, 3) := dk_167 0 5 (dk_at dksX1_recovered_1 17 rfl rfl)
theorem dX1_recovered_42 : decode cX1_recovered 42 = .ok (.bipush (-2), 2) := dk_16 254 (dk_at dksX1_recovered_1 20 rfl rfl)
theorem dX1_recovered_44 : decode cX1_recovered 44 = .ok (.ireturn, 1) := dk_172 (dk_at dksX1_recovered_1 22 rfl rfl)
abbrev cX1_annual : ByteArray := prog_1_method_35_code
def yX1_annual : MethodName := ⟨RX1, "annual", "(III)I"⟩
def dkwX1_annual_4 : List UInt8 := [180, 0, 65, 27, 28, 182, 1, 100, 100, 172, 19, 1, 94, 172]
abbrev dktX1_annual_4 : List UInt8 := dkwX1_annual_4 ++ []
def dkwX1_annual_3 : List UInt8 := [182, 1, 98, 153, 0, 7, 4, 167, 0, 4, 3, 172, 42, 180, 0, 65, 27, 28, 182, 1, 95, 42]
abbrev dktX1_annual_3 : List UInt8 := dkwX1_annual_3 ++ dktX1_annual_4
def dkwX1_annual_2 : List UInt8 := [42, 180, 0, 65, 27, 28, 182, 1, 65, 172, 42, 180, 0, 65, 27, 28, 182, 1, 95, 172, 42, 27, 28]
abbrev dktX1_annual_2 : List UInt8 := dkwX1_annual_2 ++ dktX1_annual_3
def dkwX1_annual_1 : List UInt8 := [170, 0, 0, 0, 0, 85, 0, 0, 0, 0, 0, 0, 0, 3, 0, 0, 0, 30, 0, 0, 0, 40, 0, 0, 0, 50, 0, 0, 0, 65]
abbrev dktX1_annual_1 : List UInt8 := dkwX1_annual_1 ++ dktX1_annual_2
def dkwX1_annual_0 : List UInt8 := [42, 27, 28, 182, 1, 90, 154, 0, 7, 19, 1, 94, 172, 29]
abbrev dktX1_annual_0 : List UInt8 := dkwX1_annual_0 ++ dktX1_annual_1
theorem dksX1_annual_0 : cX1_annual.data.toList.drop 0 = dktX1_annual_0 := by decide +kernel
theorem dksX1_annual_1 : cX1_annual.data.toList.drop 14 = dktX1_annual_1 := dk_seg dksX1_annual_0 14 rfl rfl
theorem dksX1_annual_2 : cX1_annual.data.toList.drop 44 = dktX1_annual_2 := dk_seg dksX1_annual_1 30 rfl rfl
theorem dksX1_annual_3 : cX1_annual.data.toList.drop 67 = dktX1_annual_3 := dk_seg dksX1_annual_2 23 rfl rfl
theorem dksX1_annual_4 : cX1_annual.data.toList.drop 89 = dktX1_annual_4 := dk_seg dksX1_annual_3 22 rfl rfl
theorem dX1_annual_0 : decode cX1_annual 0 = .ok (.aload_n 0, 1) := dk_42 (dk_at dksX1_annual_0 0 rfl rfl)
theorem dX1_annual_1 : decode cX1_annual 1 = .ok (.iload_n 1, 1) := dk_27 (dk_at dksX1_annual_0 1 rfl rfl)
theorem dX1_annual_2 : decode cX1_annual 2 = .ok (.iload_n 2, 1) := dk_28 (dk_at dksX1_annual_0 2 rfl rfl)
theorem dX1_annual_3 : decode cX1_annual 3 = .ok (.invokevirtual 346, 3) := dk_182 1 90 (dk_at dksX1_annual_0 3 rfl rfl)
theorem dX1_annual_6 : decode cX1_annual 6 = .ok (.ifCond .ne 7, 3) := dk_154 0 7 (dk_at dksX1_annual_0 6 rfl rfl)
theorem dX1_annual_9 : decode cX1_annual 9 = .ok (.ldc_w 350, 3) := dk_19 1 94 (dk_at dksX1_annual_0 9 rfl rfl)
theorem dX1_annual_12 : decode cX1_annual 12 = .ok (.ireturn, 1) := dk_172 (dk_at dksX1_annual_0 12 rfl rfl)
theorem dX1_annual_13 : decode cX1_annual 13 = .ok (.iload_n 3, 1) := dk_29 (dk_at dksX1_annual_0 13 rfl rfl)
theorem dX1_annual_14 : decode cX1_annual 14 = .ok (.tableswitch 85 0 3 #[30, 40, 50, 65], 30) := by decide +kernel
theorem dX1_annual_44 : decode cX1_annual 44 = .ok (.aload_n 0, 1) := dk_42 (dk_at dksX1_annual_2 0 rfl rfl)
theorem dX1_annual_45 : decode cX1_annual 45 = .ok (.getfield 65, 3) := dk_180 0 65 (dk_at dksX1_annual_2 1 rfl rfl)
theorem dX1_annual_48 : decode cX1_annual 48 = .ok (.iload_n 1, 1) := dk_27 (dk_at dksX1_annual_2 4 rfl rfl)
theorem dX1_annual_49 : decode cX1_annual 49 = .ok (.iload_n 2, 1) := dk_28 (dk_at dksX1_annual_2 5 rfl rfl)
theorem dX1_annual_50 : decode cX1_annual 50 = .ok (.invokevirtual 321, 3) := dk_182 1 65 (dk_at dksX1_annual_2 6 rfl rfl)
theorem dX1_annual_53 : decode cX1_annual 53 = .ok (.ireturn, 1) := dk_172 (dk_at dksX1_annual_2 9 rfl rfl)
theorem dX1_annual_54 : decode cX1_annual 54 = .ok (.aload_n 0, 1) := dk_42 (dk_at dksX1_annual_2 10 rfl rfl)
theorem dX1_annual_55 : decode cX1_annual 55 = .ok (.getfield 65, 3) := dk_180 0 65 (dk_at dksX1_annual_2 11 rfl rfl)
theorem dX1_annual_58 : decode cX1_annual 58 = .ok (.iload_n 1, 1) := dk_27 (dk_at dksX1_annual_2 14 rfl rfl)
theorem dX1_annual_59 : decode cX1_annual 59 = .ok (.iload_n 2, 1) := dk_28 (dk_at dksX1_annual_2 15 rfl rfl)
theorem dX1_annual_60 : decode cX1_annual 60 = .ok (.invokevirtual 351, 3) := dk_182 1 95 (dk_at dksX1_annual_2 16 rfl rfl)
theorem dX1_annual_63 : decode cX1_annual 63 = .ok (.ireturn, 1) := dk_172 (dk_at dksX1_annual_2 19 rfl rfl)
theorem dX1_annual_64 : decode cX1_annual 64 = .ok (.aload_n 0, 1) := dk_42 (dk_at dksX1_annual_2 20 rfl rfl)
theorem dX1_annual_65 : decode cX1_annual 65 = .ok (.iload_n 1, 1) := dk_27 (dk_at dksX1_annual_2 21 rfl rfl)
theorem dX1_annual_66 : decode cX1_annual 66 = .ok (.iload_n 2, 1) := dk_28 (dk_at dksX1_annual_2 22 rfl rfl)
theorem dX1_annual_67 : decode cX1_annual 67 = .ok (.invokevirtual 354, 3) := dk_182 1 98 (dk_at dksX1_annual_3 0 rfl rfl)
theorem dX1_annual_70 : decode cX1_annual 70 = .ok (.ifCond .eq 7, 3) := dk_153 0 7 (dk_at dksX1_annual_3 3 rfl rfl)
theorem dX1_annual_73 : decode cX1_annual 73 = .ok (.iconst 1, 1) := dk_4 (dk_at dksX1_annual_3 6 rfl rfl)
theorem dX1_annual_74 : decode cX1_annual 74 = .ok (.goto 4, 3) := dk_167 0 4 (dk_at dksX1_annual_3 7 rfl rfl)
theorem dX1_annual_77 : decode cX1_annual 77 = .ok (.iconst 0, 1) := dk_3 (dk_at dksX1_annual_3 10 rfl rfl)
theorem dX1_annual_78 : decode cX1_annual 78 = .ok (.ireturn, 1) := dk_172 (dk_at dksX1_annual_3 11 rfl rfl)
theorem dX1_annual_79 : decode cX1_annual 79 = .ok (.aload_n 0, 1) := dk_42 (dk_at dksX1_annual_3 12 rfl rfl)
theorem dX1_annual_80 : decode cX1_annual 80 = .ok (.getfield 65, 3) := dk_180 0 65 (dk_at dksX1_annual_3 13 rfl rfl)
theorem dX1_annual_83 : decode cX1_annual 83 = .ok (.iload_n 1, 1) := dk_27 (dk_at dksX1_annual_3 16 rfl rfl)
theorem dX1_annual_84 : decode cX1_annual 84 = .ok (.iload_n 2, 1) := dk_28 (dk_at dksX1_annual_3 17 rfl rfl)
theorem dX1_annual_85 : decode cX1_annual 85 = .ok (.invokevirtual 351, 3) := dk_182 1 95 (dk_at dksX1_annual_3 18 rfl rfl)
theorem dX1_annual_88 : decode cX1_annual 88 = .ok (.aload_n 0, 1) := dk_42 (dk_at dksX1_annual_3 21 rfl rfl)
theorem dX1_annual_89 : decode cX1_annual 89 = .ok (.getfield 65, 3) := dk_180 0 65 (dk_at dksX1_annual_4 0 rfl rfl)
theorem dX1_annual_92 : decode cX1_annual 92 = .ok (.iload_n 1, 1) := dk_27 (dk_at dksX1_annual_4 3 rfl rfl)
theorem dX1_annual_93 : decode cX1_annual 93 = .ok (.iload_n 2, 1) := dk_28 (dk_at dksX1_annual_4 4 rfl rfl)
theorem dX1_annual_94 : decode cX1_annual 94 = .ok (.invokevirtual 356, 3) := dk_182 1 100 (dk_at dksX1_annual_4 5 rfl rfl)
theorem dX1_annual_97 : decode cX1_annual 97 = .ok (.isub, 1) := dk_100 (dk_at dksX1_annual_4 8 rfl rfl)
theorem dX1_annual_98 : decode cX1_annual 98 = .ok (.ireturn, 1) := dk_172 (dk_at dksX1_annual_4 9 rfl rfl)
theorem dX1_annual_99 : decode cX1_annual 99 = .ok (.ldc_w 350, 3) := dk_19 1 94 (dk_at dksX1_annual_4 10 rfl rfl)
theorem dX1_annual_102 : decode cX1_annual 102 = .ok (.ireturn, 1) := dk_172 (dk_at dksX1_annual_4 13 rfl rfl)
abbrev cX1_isThere : ByteArray := prog_1_method_33_code
def yX1_isThere : MethodName := ⟨RX1, "isThere", "(II)Z"⟩
def dkwX1_isThere_1 : List UInt8 := [167, 0, 4, 3, 172]
abbrev dktX1_isThere_1 : List UInt8 := dkwX1_isThere_1 ++ []
def dkwX1_isThere_0 : List UInt8 := [42, 27, 182, 0, 185, 153, 0, 22, 28, 184, 1, 62, 153, 0, 15, 28, 42, 182, 0, 158, 163, 0, 7, 4]
abbrev dktX1_isThere_0 : List UInt8 := dkwX1_isThere_0 ++ dktX1_isThere_1
theorem dksX1_isThere_0 : cX1_isThere.data.toList.drop 0 = dktX1_isThere_0 := by decide +kernel
theorem dksX1_isThere_1 : cX1_isThere.data.toList.drop 24 = dktX1_isThere_1 := dk_seg dksX1_isThere_0 24 rfl rfl
theorem dX1_isThere_0 : decode cX1_isThere 0 = .ok (.aload_n 0, 1) := dk_42 (dk_at dksX1_isThere_0 0 rfl rfl)
theorem dX1_isThere_1 : decode cX1_isThere 1 = .ok (.iload_n 1, 1) := dk_27 (dk_at dksX1_isThere_0 1 rfl rfl)
theorem dX1_isThere_2 : decode cX1_isThere 2 = .ok (.invokevirtual 185, 3) := dk_182 0 185 (dk_at dksX1_isThere_0 2 rfl rfl)
theorem dX1_isThere_5 : decode cX1_isThere 5 = .ok (.ifCond .eq 22, 3) := dk_153 0 22 (dk_at dksX1_isThere_0 5 rfl rfl)
theorem dX1_isThere_8 : decode cX1_isThere 8 = .ok (.iload_n 2, 1) := dk_28 (dk_at dksX1_isThere_0 8 rfl rfl)
theorem dX1_isThere_9 : decode cX1_isThere 9 = .ok (.invokestatic 318, 3) := dk_184 1 62 (dk_at dksX1_isThere_0 9 rfl rfl)
theorem dX1_isThere_12 : decode cX1_isThere 12 = .ok (.ifCond .eq 15, 3) := dk_153 0 15 (dk_at dksX1_isThere_0 12 rfl rfl)
theorem dX1_isThere_15 : decode cX1_isThere 15 = .ok (.iload_n 2, 1) := dk_28 (dk_at dksX1_isThere_0 15 rfl rfl)
theorem dX1_isThere_16 : decode cX1_isThere 16 = .ok (.aload_n 0, 1) := dk_42 (dk_at dksX1_isThere_0 16 rfl rfl)
theorem dX1_isThere_17 : decode cX1_isThere 17 = .ok (.invokevirtual 158, 3) := dk_182 0 158 (dk_at dksX1_isThere_0 17 rfl rfl)
theorem dX1_isThere_20 : decode cX1_isThere 20 = .ok (.if_icmp .gt 7, 3) := dk_163 0 7 (dk_at dksX1_isThere_0 20 rfl rfl)
theorem dX1_isThere_23 : decode cX1_isThere 23 = .ok (.iconst 1, 1) := dk_4 (dk_at dksX1_isThere_0 23 rfl rfl)
theorem dX1_isThere_24 : decode cX1_isThere 24 = .ok (.goto 4, 3) := dk_167 0 4 (dk_at dksX1_isThere_1 0 rfl rfl)
theorem dX1_isThere_27 : decode cX1_isThere 27 = .ok (.iconst 0, 1) := dk_3 (dk_at dksX1_isThere_1 3 rfl rfl)
theorem dX1_isThere_28 : decode cX1_isThere 28 = .ok (.ireturn, 1) := dk_172 (dk_at dksX1_isThere_1 4 rfl rfl)
abbrev cX1_isYear : ByteArray := prog_1_method_12_code
def yX1_isYear : MethodName := ⟨RX1, "isYear", "(I)Z"⟩
def dkwX1_isYear_0 : List UInt8 := [26, 133, 9, 20, 0, 138, 184, 0, 96, 172]
abbrev dktX1_isYear_0 : List UInt8 := dkwX1_isYear_0 ++ []
theorem dksX1_isYear_0 : cX1_isYear.data.toList.drop 0 = dktX1_isYear_0 := by decide +kernel
theorem dX1_isYear_0 : decode cX1_isYear 0 = .ok (.iload_n 0, 1) := dk_26 (dk_at dksX1_isYear_0 0 rfl rfl)
theorem dX1_isYear_1 : decode cX1_isYear 1 = .ok (.i2l, 1) := dk_133 (dk_at dksX1_isYear_0 1 rfl rfl)
theorem dX1_isYear_2 : decode cX1_isYear 2 = .ok (.lconst 0, 1) := dk_9 (dk_at dksX1_isYear_0 2 rfl rfl)
theorem dX1_isYear_3 : decode cX1_isYear 3 = .ok (.ldc2_w 138, 3) := dk_20 0 138 (dk_at dksX1_isYear_0 3 rfl rfl)
theorem dX1_isYear_6 : decode cX1_isYear 6 = .ok (.invokestatic 96, 3) := dk_184 0 96 (dk_at dksX1_isYear_0 6 rfl rfl)
theorem dX1_isYear_9 : decode cX1_isYear 9 = .ok (.ireturn, 1) := dk_172 (dk_at dksX1_isYear_0 9 rfl rfl)
abbrev cX1_isSmall : ByteArray := prog_1_method_34_code
def yX1_isSmall : MethodName := ⟨RX1, "isSmall", "(II)Z"⟩
def dkwX1_isSmall_2 : List UInt8 := [180, 1, 83, 182, 1, 86, 172]
abbrev dktX1_isSmall_2 : List UInt8 := dkwX1_isSmall_2 ++ []
def dkwX1_isSmall_1 : List UInt8 := [25, 4, 29, 42, 180, 0, 54, 180, 1, 72, 42, 180, 0, 65, 182, 1, 75, 182, 1, 79, 42, 180, 0, 54]
abbrev dktX1_isSmall_1 : List UInt8 := dkwX1_isSmall_1 ++ dktX1_isSmall_2
def dkwX1_isSmall_0 : List UInt8 := [42, 180, 0, 65, 27, 28, 182, 1, 65, 62, 42, 180, 0, 65, 27, 28, 182, 1, 68, 58, 4, 25, 4]
abbrev dktX1_isSmall_0 : List UInt8 := dkwX1_isSmall_0 ++ dktX1_isSmall_1
theorem dksX1_isSmall_0 : cX1_isSmall.data.toList.drop 0 = dktX1_isSmall_0 := by decide +kernel
theorem dksX1_isSmall_1 : cX1_isSmall.data.toList.drop 23 = dktX1_isSmall_1 := dk_seg dksX1_isSmall_0 23 rfl rfl
theorem dksX1_isSmall_2 : cX1_isSmall.data.toList.drop 47 = dktX1_isSmall_2 := dk_seg dksX1_isSmall_1 24 rfl rfl
theorem dX1_isSmall_0 : decode cX1_isSmall 0 = .ok (.aload_n 0, 1) := dk_42 (dk_at dksX1_isSmall_0 0 rfl rfl)
theorem dX1_isSmall_1 : decode cX1_isSmall 1 = .ok (.getfield 65, 3) := dk_180 0 65 (dk_at dksX1_isSmall_0 1 rfl rfl)
theorem dX1_isSmall_4 : decode cX1_isSmall 4 = .ok (.iload_n 1, 1) := dk_27 (dk_at dksX1_isSmall_0 4 rfl rfl)
theorem dX1_isSmall_5 : decode cX1_isSmall 5 = .ok (.iload_n 2, 1) := dk_28 (dk_at dksX1_isSmall_0 5 rfl rfl)
theorem dX1_isSmall_6 : decode cX1_isSmall 6 = .ok (.invokevirtual 321, 3) := dk_182 1 65 (dk_at dksX1_isSmall_0 6 rfl rfl)
theorem dX1_isSmall_9 : decode cX1_isSmall 9 = .ok (.istore_n 3, 1) := dk_62 (dk_at dksX1_isSmall_0 9 rfl rfl)
theorem dX1_isSmall_10 : decode cX1_isSmall 10 = .ok (.aload_n 0, 1) := dk_42 (dk_at dksX1_isSmall_0 10 rfl rfl)
theorem dX1_isSmall_11 : decode cX1_isSmall 11 = .ok (.getfield 65, 3) := dk_180 0 65 (dk_at dksX1_isSmall_0 11 rfl rfl)
theorem dX1_isSmall_14 : decode cX1_isSmall 14 = .ok (.iload_n 1, 1) := dk_27 (dk_at dksX1_isSmall_0 14 rfl rfl)
theorem dX1_isSmall_15 : decode cX1_isSmall 15 = .ok (.iload_n 2, 1) := dk_28 (dk_at dksX1_isSmall_0 15 rfl rfl)
theorem dX1_isSmall_16 : decode cX1_isSmall 16 = .ok (.invokevirtual 324, 3) := dk_182 1 68 (dk_at dksX1_isSmall_0 16 rfl rfl)
theorem dX1_isSmall_19 : decode cX1_isSmall 19 = .ok (.astore 4, 2) := dk_58 4 (dk_at dksX1_isSmall_0 19 rfl rfl)
theorem dX1_isSmall_21 : decode cX1_isSmall 21 = .ok (.aload 4, 2) := dk_25 4 (dk_at dksX1_isSmall_0 21 rfl rfl)
theorem dX1_isSmall_23 : decode cX1_isSmall 23 = .ok (.aload 4, 2) := dk_25 4 (dk_at dksX1_isSmall_1 0 rfl rfl)
theorem dX1_isSmall_25 : decode cX1_isSmall 25 = .ok (.iload_n 3, 1) := dk_29 (dk_at dksX1_isSmall_1 2 rfl rfl)
theorem dX1_isSmall_26 : decode cX1_isSmall 26 = .ok (.aload_n 0, 1) := dk_42 (dk_at dksX1_isSmall_1 3 rfl rfl)
theorem dX1_isSmall_27 : decode cX1_isSmall 27 = .ok (.getfield 54, 3) := dk_180 0 54 (dk_at dksX1_isSmall_1 4 rfl rfl)
theorem dX1_isSmall_30 : decode cX1_isSmall 30 = .ok (.getfield 328, 3) := dk_180 1 72 (dk_at dksX1_isSmall_1 7 rfl rfl)
theorem dX1_isSmall_33 : decode cX1_isSmall 33 = .ok (.aload_n 0, 1) := dk_42 (dk_at dksX1_isSmall_1 10 rfl rfl)
theorem dX1_isSmall_34 : decode cX1_isSmall 34 = .ok (.getfield 65, 3) := dk_180 0 65 (dk_at dksX1_isSmall_1 11 rfl rfl)
theorem dX1_isSmall_37 : decode cX1_isSmall 37 = .ok (.invokevirtual 331, 3) := dk_182 1 75 (dk_at dksX1_isSmall_1 14 rfl rfl)
theorem dX1_isSmall_40 : decode cX1_isSmall 40 = .ok (.invokevirtual 335, 3) := dk_182 1 79 (dk_at dksX1_isSmall_1 17 rfl rfl)
theorem dX1_isSmall_43 : decode cX1_isSmall 43 = .ok (.aload_n 0, 1) := dk_42 (dk_at dksX1_isSmall_1 20 rfl rfl)
theorem dX1_isSmall_44 : decode cX1_isSmall 44 = .ok (.getfield 54, 3) := dk_180 0 54 (dk_at dksX1_isSmall_1 21 rfl rfl)
theorem dX1_isSmall_47 : decode cX1_isSmall 47 = .ok (.getfield 339, 3) := dk_180 1 83 (dk_at dksX1_isSmall_2 0 rfl rfl)
theorem dX1_isSmall_50 : decode cX1_isSmall 50 = .ok (.invokevirtual 342, 3) := dk_182 1 86 (dk_at dksX1_isSmall_2 3 rfl rfl)
theorem dX1_isSmall_53 : decode cX1_isSmall 53 = .ok (.ireturn, 1) := dk_172 (dk_at dksX1_isSmall_2 6 rfl rfl)
abbrev cX1_interval : ByteArray := prog_1_method_36_code
def yX1_interval : MethodName := ⟨RX1, "interval", "(III)I"⟩
def dkwX1_interval_4 : List UInt8 := [25, 4, 180, 1, 114, 21, 5, 46, 167, 0, 11, 25, 4, 180, 0, 154, 21, 5, 46, 172]
abbrev dktX1_interval_4 : List UInt8 := dkwX1_interval_4 ++ []
def dkwX1_interval_3 : List UInt8 := [167, 0, 43, 29, 4, 160, 0, 14, 25, 4, 180, 1, 111, 21, 5, 46, 167, 0, 27, 29, 5, 160, 0, 14]
abbrev dktX1_interval_3 : List UInt8 := dkwX1_interval_3 ++ dktX1_interval_4
def dkwX1_interval_2 : List UInt8 := [154, 0, 7, 19, 1, 94, 172, 25, 4, 180, 1, 108, 28, 96, 54, 5, 29, 154, 0, 8, 21, 5]
abbrev dktX1_interval_2 : List UInt8 := dkwX1_interval_2 ++ dktX1_interval_3
def dkwX1_interval_1 : List UInt8 := [42, 180, 0, 65, 27, 182, 0, 222, 58, 4, 28, 133, 9, 25, 4, 180, 1, 105, 4, 100, 133, 184, 0, 96]
abbrev dktX1_interval_1 : List UInt8 := dkwX1_interval_1 ++ dktX1_interval_2
def dkwX1_interval_0 : List UInt8 := [42, 27, 182, 0, 219, 153, 0, 15, 29, 133, 9, 20, 1, 103, 184, 0, 96, 154, 0, 7, 19, 1, 94, 172]
abbrev dktX1_interval_0 : List UInt8 := dkwX1_interval_0 ++ dktX1_interval_1
theorem dksX1_interval_0 : cX1_interval.data.toList.drop 0 = dktX1_interval_0 := by decide +kernel
theorem dksX1_interval_1 : cX1_interval.data.toList.drop 24 = dktX1_interval_1 := dk_seg dksX1_interval_0 24 rfl rfl
theorem dksX1_interval_2 : cX1_interval.data.toList.drop 48 = dktX1_interval_2 := dk_seg dksX1_interval_1 24 rfl rfl
theorem dksX1_interval_3 : cX1_interval.data.toList.drop 70 = dktX1_interval_3 := dk_seg dksX1_interval_2 22 rfl rfl
theorem dksX1_interval_4 : cX1_interval.data.toList.drop 94 = dktX1_interval_4 := dk_seg dksX1_interval_3 24 rfl rfl
theorem dX1_interval_0 : decode cX1_interval 0 = .ok (.aload_n 0, 1) := dk_42 (dk_at dksX1_interval_0 0 rfl rfl)
theorem dX1_interval_1 : decode cX1_interval 1 = .ok (.iload_n 1, 1) := dk_27 (dk_at dksX1_interval_0 1 rfl rfl)
theorem dX1_interval_2 : decode cX1_interval 2 = .ok (.invokevirtual 219, 3) := dk_182 0 219 (dk_at dksX1_interval_0 2 rfl rfl)
theorem dX1_interval_5 : decode cX1_interval 5 = .ok (.ifCond .eq 15, 3) := dk_153 0 15 (dk_at dksX1_interval_0 5 rfl rfl)
theorem dX1_interval_8 : decode cX1_interval 8 = .ok (.iload_n 3, 1) := dk_29 (dk_at dksX1_interval_0 8 rfl rfl)
theorem dX1_interval_9 : decode cX1_interval 9 = .ok (.i2l, 1) := dk_133 (dk_at dksX1_interval_0 9 rfl rfl)
theorem dX1_interval_10 : decode cX1_interval 10 = .ok (.lconst 0, 1) := dk_9 (dk_at dksX1_interval_0 10 rfl rfl)
theorem dX1_interval_11 : decode cX1_interval 11 = .ok (.ldc2_w 359, 3) := dk_20 1 103 (dk_at dksX1_interval_0 11 rfl rfl)
theorem dX1_interval_14 : decode cX1_interval 14 = .ok (.invokestatic 96, 3) := dk_184 0 96 (dk_at dksX1_interval_0 14 rfl rfl)
theorem dX1_interval_17 : decode cX1_interval 17 = .ok (.ifCond .ne 7, 3) := dk_154 0 7 (dk_at dksX1_interval_0 17 rfl rfl)
theorem dX1_interval_20 : decode cX1_interval 20 = .ok (.ldc_w 350, 3) := dk_19 1 94 (dk_at dksX1_interval_0 20 rfl rfl)
theorem dX1_interval_23 : decode cX1_interval 23 = .ok (.ireturn, 1) := dk_172 (dk_at dksX1_interval_0 23 rfl rfl)
theorem dX1_interval_24 : decode cX1_interval 24 = .ok (.aload_n 0, 1) := dk_42 (dk_at dksX1_interval_1 0 rfl rfl)
theorem dX1_interval_25 : decode cX1_interval 25 = .ok (.getfield 65, 3) := dk_180 0 65 (dk_at dksX1_interval_1 1 rfl rfl)
theorem dX1_interval_28 : decode cX1_interval 28 = .ok (.iload_n 1, 1) := dk_27 (dk_at dksX1_interval_1 4 rfl rfl)
theorem dX1_interval_29 : decode cX1_interval 29 = .ok (.invokevirtual 222, 3) := dk_182 0 222 (dk_at dksX1_interval_1 5 rfl rfl)
theorem dX1_interval_32 : decode cX1_interval 32 = .ok (.astore 4, 2) := dk_58 4 (dk_at dksX1_interval_1 8 rfl rfl)
theorem dX1_interval_34 : decode cX1_interval 34 = .ok (.iload_n 2, 1) := dk_28 (dk_at dksX1_interval_1 10 rfl rfl)
theorem dX1_interval_35 : decode cX1_interval 35 = .ok (.i2l, 1) := dk_133 (dk_at dksX1_interval_1 11 rfl rfl)
theorem dX1_interval_36 : decode cX1_interval 36 = .ok (.lconst 0, 1) := dk_9 (dk_at dksX1_interval_1 12 rfl rfl)
theorem dX1_interval_37 : decode cX1_interval 37 = .ok (.aload 4, 2) := dk_25 4 (dk_at dksX1_interval_1 13 rfl rfl)
theorem dX1_interval_39 : decode cX1_interval 39 = .ok (.getfield 361, 3) := dk_180 1 105 (dk_at dksX1_interval_1 15 rfl rfl)
theorem dX1_interval_42 : decode cX1_interval 42 = .ok (.iconst 1, 1) := dk_4 (dk_at dksX1_interval_1 18 rfl rfl)
theorem dX1_interval_43 : decode cX1_interval 43 = .ok (.isub, 1) := dk_100 (dk_at dksX1_interval_1 19 rfl rfl)
theorem dX1_interval_44 : decode cX1_interval 44 = .ok (.i2l, 1) := dk_133 (dk_at dksX1_interval_1 20 rfl rfl)
theorem dX1_interval_45 : decode cX1_interval 45 = .ok (.invokestatic 96, 3) := dk_184 0 96 (dk_at dksX1_interval_1 21 rfl rfl)
theorem dX1_interval_48 : decode cX1_interval 48 = .ok (.ifCond .ne 7, 3) := dk_154 0 7 (dk_at dksX1_interval_2 0 rfl rfl)
theorem dX1_interval_51 : decode cX1_interval 51 = .ok (.ldc_w 350, 3) := dk_19 1 94 (dk_at dksX1_interval_2 3 rfl rfl)
theorem dX1_interval_54 : decode cX1_interval 54 = .ok (.ireturn, 1) := dk_172 (dk_at dksX1_interval_2 6 rfl rfl)
theorem dX1_interval_55 : decode cX1_interval 55 = .ok (.aload 4, 2) := dk_25 4 (dk_at dksX1_interval_2 7 rfl rfl)
theorem dX1_interval_57 : decode cX1_interval 57 = .ok (.getfield 364, 3) := dk_180 1 108 (dk_at dksX1_interval_2 9 rfl rfl)
theorem dX1_interval_60 : decode cX1_interval 60 = .ok (.iload_n 2, 1) := dk_28 (dk_at dksX1_interval_2 12 rfl rfl)
theorem dX1_interval_61 : decode cX1_interval 61 = .ok (.iadd, 1) := dk_96 (dk_at dksX1_interval_2 13 rfl rfl)
theorem dX1_interval_62 : decode cX1_interval 62 = .ok (.istore 5, 2) := dk_54 5 (dk_at dksX1_interval_2 14 rfl rfl)
theorem dX1_interval_64 : decode cX1_interval 64 = .ok (.iload_n 3, 1) := dk_29 (dk_at dksX1_interval_2 16 rfl rfl)
theorem dX1_interval_65 : decode cX1_interval 65 = .ok (.ifCond .ne 8, 3) := dk_154 0 8 (dk_at dksX1_interval_2 17 rfl rfl)
theorem dX1_interval_68 : decode cX1_interval 68 = .ok (.iload 5, 2) := dk_21 5 (dk_at dksX1_interval_2 20 rfl rfl)
theorem dX1_interval_70 : decode cX1_interval 70 = .ok (.goto 43, 3) := dk_167 0 43 (dk_at dksX1_interval_3 0 rfl rfl)
theorem dX1_interval_73 : decode cX1_interval 73 = .ok (.iload_n 3, 1) := dk_29 (dk_at dksX1_interval_3 3 rfl rfl)
theorem dX1_interval_74 : decode cX1_interval 74 = .ok (.iconst 1, 1) := dk_4 (dk_at dksX1_interval_3 4 rfl rfl)
theorem dX1_interval_75 : decode cX1_interval 75 = .ok (.if_icmp .ne 14, 3) := dk_160 0 14 (dk_at dksX1_interval_3 5 rfl rfl)
theorem dX1_interval_78 : decode cX1_interval 78 = .ok (.aload 4, 2) := dk_25 4 (dk_at dksX1_interval_3 8 rfl rfl)
theorem dX1_interval_80 : decode cX1_interval 80 = .ok (.getfield 367, 3) := dk_180 1 111 (dk_at dksX1_interval_3 10 rfl rfl)
theorem dX1_interval_83 : decode cX1_interval 83 = .ok (.iload 5, 2) := dk_21 5 (dk_at dksX1_interval_3 13 rfl rfl)
theorem dX1_interval_85 : decode cX1_interval 85 = .ok (.iaload, 1) := dk_46 (dk_at dksX1_interval_3 15 rfl rfl)
theorem dX1_interval_86 : decode cX1_interval 86 = .ok (.goto 27, 3) := dk_167 0 27 (dk_at dksX1_interval_3 16 rfl rfl)
theorem dX1_interval_89 : decode cX1_interval 89 = .ok (.iload_n 3, 1) := dk_29 (dk_at dksX1_interval_3 19 rfl rfl)
theorem dX1_interval_90 : decode cX1_interval 90 = .ok (.iconst 2, 1) := dk_5 (dk_at dksX1_interval_3 20 rfl rfl)
theorem dX1_interval_91 : decode cX1_interval 91 = .ok (.if_icmp .ne 14, 3) := dk_160 0 14 (dk_at dksX1_interval_3 21 rfl rfl)
theorem dX1_interval_94 : decode cX1_interval 94 = .ok (.aload 4, 2) := dk_25 4 (dk_at dksX1_interval_4 0 rfl rfl)
theorem dX1_interval_96 : decode cX1_interval 96 = .ok (.getfield 370, 3) := dk_180 1 114 (dk_at dksX1_interval_4 2 rfl rfl)
theorem dX1_interval_99 : decode cX1_interval 99 = .ok (.iload 5, 2) := dk_21 5 (dk_at dksX1_interval_4 5 rfl rfl)
theorem dX1_interval_101 : decode cX1_interval 101 = .ok (.iaload, 1) := dk_46 (dk_at dksX1_interval_4 7 rfl rfl)
theorem dX1_interval_102 : decode cX1_interval 102 = .ok (.goto 11, 3) := dk_167 0 11 (dk_at dksX1_interval_4 8 rfl rfl)
theorem dX1_interval_105 : decode cX1_interval 105 = .ok (.aload 4, 2) := dk_25 4 (dk_at dksX1_interval_4 11 rfl rfl)
theorem dX1_interval_107 : decode cX1_interval 107 = .ok (.getfield 154, 3) := dk_180 0 154 (dk_at dksX1_interval_4 13 rfl rfl)
theorem dX1_interval_110 : decode cX1_interval 110 = .ok (.iload 5, 2) := dk_21 5 (dk_at dksX1_interval_4 16 rfl rfl)
theorem dX1_interval_112 : decode cX1_interval 112 = .ok (.iaload, 1) := dk_46 (dk_at dksX1_interval_4 18 rfl rfl)
theorem dX1_interval_113 : decode cX1_interval 113 = .ok (.ireturn, 1) := dk_172 (dk_at dksX1_interval_4 19 rfl rfl)
abbrev cX1_taken : ByteArray := prog_1_method_37_code
def yX1_taken : MethodName := ⟨RX1, "taken", "(I)I"⟩
def dkwX1_taken_1 : List UInt8 := [182, 1, 117, 172]
abbrev dktX1_taken_1 : List UInt8 := dkwX1_taken_1 ++ []
def dkwX1_taken_0 : List UInt8 := [42, 27, 182, 0, 219, 154, 0, 7, 19, 1, 94, 172, 42, 180, 0, 65, 42, 180, 0, 65, 27, 182, 0, 222]
abbrev dktX1_taken_0 : List UInt8 := dkwX1_taken_0 ++ dktX1_taken_1
theorem dksX1_taken_0 : cX1_taken.data.toList.drop 0 = dktX1_taken_0 := by decide +kernel
theorem dksX1_taken_1 : cX1_taken.data.toList.drop 24 = dktX1_taken_1 := dk_seg dksX1_taken_0 24 rfl rfl
theorem dX1_taken_0 : decode cX1_taken 0 = .ok (.aload_n 0, 1) := dk_42 (dk_at dksX1_taken_0 0 rfl rfl)
theorem dX1_taken_1 : decode cX1_taken 1 = .ok (.iload_n 1, 1) := dk_27 (dk_at dksX1_taken_0 1 rfl rfl)
theorem dX1_taken_2 : decode cX1_taken 2 = .ok (.invokevirtual 219, 3) := dk_182 0 219 (dk_at dksX1_taken_0 2 rfl rfl)
theorem dX1_taken_5 : decode cX1_taken 5 = .ok (.ifCond .ne 7, 3) := dk_154 0 7 (dk_at dksX1_taken_0 5 rfl rfl)
theorem dX1_taken_8 : decode cX1_taken 8 = .ok (.ldc_w 350, 3) := dk_19 1 94 (dk_at dksX1_taken_0 8 rfl rfl)
theorem dX1_taken_11 : decode cX1_taken 11 = .ok (.ireturn, 1) := dk_172 (dk_at dksX1_taken_0 11 rfl rfl)
theorem dX1_taken_12 : decode cX1_taken 12 = .ok (.aload_n 0, 1) := dk_42 (dk_at dksX1_taken_0 12 rfl rfl)
theorem dX1_taken_13 : decode cX1_taken 13 = .ok (.getfield 65, 3) := dk_180 0 65 (dk_at dksX1_taken_0 13 rfl rfl)
theorem dX1_taken_16 : decode cX1_taken 16 = .ok (.aload_n 0, 1) := dk_42 (dk_at dksX1_taken_0 16 rfl rfl)
theorem dX1_taken_17 : decode cX1_taken 17 = .ok (.getfield 65, 3) := dk_180 0 65 (dk_at dksX1_taken_0 17 rfl rfl)
theorem dX1_taken_20 : decode cX1_taken 20 = .ok (.iload_n 1, 1) := dk_27 (dk_at dksX1_taken_0 20 rfl rfl)
theorem dX1_taken_21 : decode cX1_taken 21 = .ok (.invokevirtual 222, 3) := dk_182 0 222 (dk_at dksX1_taken_0 21 rfl rfl)
theorem dX1_taken_24 : decode cX1_taken 24 = .ok (.invokevirtual 373, 3) := dk_182 1 117 (dk_at dksX1_taken_1 0 rfl rfl)
theorem dX1_taken_27 : decode cX1_taken 27 = .ok (.ireturn, 1) := dk_172 (dk_at dksX1_taken_1 3 rfl rfl)
abbrev cX1_last : ByteArray := prog_1_method_38_code
def yX1_last : MethodName := ⟨RX1, "last", "(I)I"⟩
def dkwX1_last_0 : List UInt8 := [42, 27, 182, 0, 219, 154, 0, 7, 19, 1, 94, 172, 42, 180, 0, 65, 27, 182, 0, 222, 180, 1, 120, 172]
abbrev dktX1_last_0 : List UInt8 := dkwX1_last_0 ++ []
theorem dksX1_last_0 : cX1_last.data.toList.drop 0 = dktX1_last_0 := by decide +kernel
theorem dX1_last_0 : decode cX1_last 0 = .ok (.aload_n 0, 1) := dk_42 (dk_at dksX1_last_0 0 rfl rfl)
theorem dX1_last_1 : decode cX1_last 1 = .ok (.iload_n 1, 1) := dk_27 (dk_at dksX1_last_0 1 rfl rfl)
theorem dX1_last_2 : decode cX1_last 2 = .ok (.invokevirtual 219, 3) := dk_182 0 219 (dk_at dksX1_last_0 2 rfl rfl)
theorem dX1_last_5 : decode cX1_last 5 = .ok (.ifCond .ne 7, 3) := dk_154 0 7 (dk_at dksX1_last_0 5 rfl rfl)
theorem dX1_last_8 : decode cX1_last 8 = .ok (.ldc_w 350, 3) := dk_19 1 94 (dk_at dksX1_last_0 8 rfl rfl)
theorem dX1_last_11 : decode cX1_last 11 = .ok (.ireturn, 1) := dk_172 (dk_at dksX1_last_0 11 rfl rfl)
theorem dX1_last_12 : decode cX1_last 12 = .ok (.aload_n 0, 1) := dk_42 (dk_at dksX1_last_0 12 rfl rfl)
theorem dX1_last_13 : decode cX1_last 13 = .ok (.getfield 65, 3) := dk_180 0 65 (dk_at dksX1_last_0 13 rfl rfl)
theorem dX1_last_16 : decode cX1_last 16 = .ok (.iload_n 1, 1) := dk_27 (dk_at dksX1_last_0 16 rfl rfl)
theorem dX1_last_17 : decode cX1_last 17 = .ok (.invokevirtual 222, 3) := dk_182 0 222 (dk_at dksX1_last_0 17 rfl rfl)
theorem dX1_last_20 : decode cX1_last 20 = .ok (.getfield 376, 3) := dk_180 1 120 (dk_at dksX1_last_0 20 rfl rfl)
theorem dX1_last_23 : decode cX1_last 23 = .ok (.ireturn, 1) := dk_172 (dk_at dksX1_last_0 23 rfl rfl)
abbrev cX1_booked : ByteArray := prog_1_method_39_code
def yX1_booked : MethodName := ⟨RX1, "booked", "(II)I"⟩
def dkwX1_booked_3 : List UInt8 := [185, 0, 174, 1, 0, 192, 1, 131, 28, 182, 1, 133, 172]
abbrev dktX1_booked_3 : List UInt8 := dkwX1_booked_3 ++ []
def dkwX1_booked_2 : List UInt8 := [78, 3, 54, 4, 21, 4, 27, 162, 0, 16, 45, 185, 0, 174, 1, 0, 87, 132, 4, 1, 167, 255, 240, 45]
abbrev dktX1_booked_2 : List UInt8 := dkwX1_booked_2 ++ dktX1_booked_3
def dkwX1_booked_1 : List UInt8 := [9, 20, 1, 18, 184, 0, 96, 154, 0, 7, 19, 1, 94, 172, 42, 180, 0, 65, 180, 1, 123, 182, 1, 130]
abbrev dktX1_booked_1 : List UInt8 := dkwX1_booked_1 ++ dktX1_booked_2
def dkwX1_booked_0 : List UInt8 := [27, 133, 9, 42, 180, 0, 65, 180, 1, 123, 182, 1, 127, 4, 100, 133, 184, 0, 96, 153, 0, 15, 28, 133]
abbrev dktX1_booked_0 : List UInt8 := dkwX1_booked_0 ++ dktX1_booked_1
theorem dksX1_booked_0 : cX1_booked.data.toList.drop 0 = dktX1_booked_0 := by decide +kernel
theorem dksX1_booked_1 : cX1_booked.data.toList.drop 24 = dktX1_booked_1 := dk_seg dksX1_booked_0 24 rfl rfl
theorem dksX1_booked_2 : cX1_booked.data.toList.drop 48 = dktX1_booked_2 := dk_seg dksX1_booked_1 24 rfl rfl
theorem dksX1_booked_3 : cX1_booked.data.toList.drop 72 = dktX1_booked_3 := dk_seg dksX1_booked_2 24 rfl rfl
theorem dX1_booked_0 : decode cX1_booked 0 = .ok (.iload_n 1, 1) := dk_27 (dk_at dksX1_booked_0 0 rfl rfl)
theorem dX1_booked_1 : decode cX1_booked 1 = .ok (.i2l, 1) := dk_133 (dk_at dksX1_booked_0 1 rfl rfl)
theorem dX1_booked_2 : decode cX1_booked 2 = .ok (.lconst 0, 1) := dk_9 (dk_at dksX1_booked_0 2 rfl rfl)
theorem dX1_booked_3 : decode cX1_booked 3 = .ok (.aload_n 0, 1) := dk_42 (dk_at dksX1_booked_0 3 rfl rfl)
theorem dX1_booked_4 : decode cX1_booked 4 = .ok (.getfield 65, 3) := dk_180 0 65 (dk_at dksX1_booked_0 4 rfl rfl)
theorem dX1_booked_7 : decode cX1_booked 7 = .ok (.getfield 379, 3) := dk_180 1 123 (dk_at dksX1_booked_0 7 rfl rfl)
theorem dX1_booked_10 : decode cX1_booked 10 = .ok (.invokevirtual 383, 3) := dk_182 1 127 (dk_at dksX1_booked_0 10 rfl rfl)
theorem dX1_booked_13 : decode cX1_booked 13 = .ok (.iconst 1, 1) := dk_4 (dk_at dksX1_booked_0 13 rfl rfl)
theorem dX1_booked_14 : decode cX1_booked 14 = .ok (.isub, 1) := dk_100 (dk_at dksX1_booked_0 14 rfl rfl)
theorem dX1_booked_15 : decode cX1_booked 15 = .ok (.i2l, 1) := dk_133 (dk_at dksX1_booked_0 15 rfl rfl)
theorem dX1_booked_16 : decode cX1_booked 16 = .ok (.invokestatic 96, 3) := dk_184 0 96 (dk_at dksX1_booked_0 16 rfl rfl)
theorem dX1_booked_19 : decode cX1_booked 19 = .ok (.ifCond .eq 15, 3) := dk_153 0 15 (dk_at dksX1_booked_0 19 rfl rfl)
theorem dX1_booked_22 : decode cX1_booked 22 = .ok (.iload_n 2, 1) := dk_28 (dk_at dksX1_booked_0 22 rfl rfl)
theorem dX1_booked_23 : decode cX1_booked 23 = .ok (.i2l, 1) := dk_133 (dk_at dksX1_booked_0 23 rfl rfl)
theorem dX1_booked_24 : decode cX1_booked 24 = .ok (.lconst 0, 1) := dk_9 (dk_at dksX1_booked_1 0 rfl rfl)
theorem dX1_booked_25 : decode cX1_booked 25 = .ok (.ldc2_w 274, 3) := dk_20 1 18 (dk_at dksX1_booked_1 1 rfl rfl)
theorem dX1_booked_28 : decode cX1_booked 28 = .ok (.invokestatic 96, 3) := dk_184 0 96 (dk_at dksX1_booked_1 4 rfl rfl)
theorem dX1_booked_31 : decode cX1_booked 31 = .ok (.ifCond .ne 7, 3) := dk_154 0 7 (dk_at dksX1_booked_1 7 rfl rfl)
theorem dX1_booked_34 : decode cX1_booked 34 = .ok (.ldc_w 350, 3) := dk_19 1 94 (dk_at dksX1_booked_1 10 rfl rfl)
theorem dX1_booked_37 : decode cX1_booked 37 = .ok (.ireturn, 1) := dk_172 (dk_at dksX1_booked_1 13 rfl rfl)
theorem dX1_booked_38 : decode cX1_booked 38 = .ok (.aload_n 0, 1) := dk_42 (dk_at dksX1_booked_1 14 rfl rfl)
theorem dX1_booked_39 : decode cX1_booked 39 = .ok (.getfield 65, 3) := dk_180 0 65 (dk_at dksX1_booked_1 15 rfl rfl)
theorem dX1_booked_42 : decode cX1_booked 42 = .ok (.getfield 379, 3) := dk_180 1 123 (dk_at dksX1_booked_1 18 rfl rfl)
theorem dX1_booked_45 : decode cX1_booked 45 = .ok (.invokevirtual 386, 3) := dk_182 1 130 (dk_at dksX1_booked_1 21 rfl rfl)
theorem dX1_booked_48 : decode cX1_booked 48 = .ok (.astore_n 3, 1) := dk_78 (dk_at dksX1_booked_2 0 rfl rfl)
theorem dX1_booked_49 : decode cX1_booked 49 = .ok (.iconst 0, 1) := dk_3 (dk_at dksX1_booked_2 1 rfl rfl)
theorem dX1_booked_50 : decode cX1_booked 50 = .ok (.istore 4, 2) := dk_54 4 (dk_at dksX1_booked_2 2 rfl rfl)
theorem dX1_booked_52 : decode cX1_booked 52 = .ok (.iload 4, 2) := dk_21 4 (dk_at dksX1_booked_2 4 rfl rfl)
theorem dX1_booked_54 : decode cX1_booked 54 = .ok (.iload_n 1, 1) := dk_27 (dk_at dksX1_booked_2 6 rfl rfl)
theorem dX1_booked_55 : decode cX1_booked 55 = .ok (.if_icmp .ge 16, 3) := dk_162 0 16 (dk_at dksX1_booked_2 7 rfl rfl)
theorem dX1_booked_58 : decode cX1_booked 58 = .ok (.aload_n 3, 1) := dk_45 (dk_at dksX1_booked_2 10 rfl rfl)
theorem dX1_booked_59 : decode cX1_booked 59 = .ok (.invokeinterface 174 1, 5) := by decide +kernel
theorem dX1_booked_64 : decode cX1_booked 64 = .ok (.pop, 1) := dk_87 (dk_at dksX1_booked_2 16 rfl rfl)
theorem dX1_booked_65 : decode cX1_booked 65 = .ok (.iinc 4 1, 3) := dk_132 4 1 (dk_at dksX1_booked_2 17 rfl rfl)
theorem dX1_booked_68 : decode cX1_booked 68 = .ok (.goto (-16), 3) := dk_167 255 240 (dk_at dksX1_booked_2 20 rfl rfl)
theorem dX1_booked_71 : decode cX1_booked 71 = .ok (.aload_n 3, 1) := dk_45 (dk_at dksX1_booked_2 23 rfl rfl)
theorem dX1_booked_72 : decode cX1_booked 72 = .ok (.invokeinterface 174 1, 5) := by decide +kernel
theorem dX1_booked_77 : decode cX1_booked 77 = .ok (.checkcast 387, 3) := dk_192 1 131 (dk_at dksX1_booked_3 5 rfl rfl)
theorem dX1_booked_80 : decode cX1_booked 80 = .ok (.iload_n 2, 1) := dk_28 (dk_at dksX1_booked_3 8 rfl rfl)
theorem dX1_booked_81 : decode cX1_booked 81 = .ok (.invokevirtual 389, 3) := dk_182 1 133 (dk_at dksX1_booked_3 9 rfl rfl)
theorem dX1_booked_84 : decode cX1_booked 84 = .ok (.ireturn, 1) := dk_172 (dk_at dksX1_booked_3 12 rfl rfl)
abbrev cX1_total : ByteArray := prog_1_method_40_code
def yX1_total : MethodName := ⟨RX1, "total", "(II)I"⟩
def dkwX1_total_1 : List UInt8 := [180, 1, 135, 27, 50, 28, 46, 167, 0, 6, 19, 1, 94, 172]
abbrev dktX1_total_1 : List UInt8 := dkwX1_total_1 ++ []
def dkwX1_total_0 : List UInt8 := [42, 27, 182, 0, 185, 153, 0, 29, 28, 133, 9, 20, 1, 103, 184, 0, 96, 153, 0, 17, 42, 180, 0, 65]
abbrev dktX1_total_0 : List UInt8 := dkwX1_total_0 ++ dktX1_total_1
theorem dksX1_total_0 : cX1_total.data.toList.drop 0 = dktX1_total_0 := by decide +kernel
theorem dksX1_total_1 : cX1_total.data.toList.drop 24 = dktX1_total_1 := dk_seg dksX1_total_0 24 rfl rfl
theorem dX1_total_0 : decode cX1_total 0 = .ok (.aload_n 0, 1) := dk_42 (dk_at dksX1_total_0 0 rfl rfl)
theorem dX1_total_1 : decode cX1_total 1 = .ok (.iload_n 1, 1) := dk_27 (dk_at dksX1_total_0 1 rfl rfl)
theorem dX1_total_2 : decode cX1_total 2 = .ok (.invokevirtual 185, 3) := dk_182 0 185 (dk_at dksX1_total_0 2 rfl rfl)
theorem dX1_total_5 : decode cX1_total 5 = .ok (.ifCond .eq 29, 3) := dk_153 0 29 (dk_at dksX1_total_0 5 rfl rfl)
theorem dX1_total_8 : decode cX1_total 8 = .ok (.iload_n 2, 1) := dk_28 (dk_at dksX1_total_0 8 rfl rfl)
theorem dX1_total_9 : decode cX1_total 9 = .ok (.i2l, 1) := dk_133 (dk_at dksX1_total_0 9 rfl rfl)
theorem dX1_total_10 : decode cX1_total 10 = .ok (.lconst 0, 1) := dk_9 (dk_at dksX1_total_0 10 rfl rfl)
theorem dX1_total_11 : decode cX1_total 11 = .ok (.ldc2_w 359, 3) := dk_20 1 103 (dk_at dksX1_total_0 11 rfl rfl)
theorem dX1_total_14 : decode cX1_total 14 = .ok (.invokestatic 96, 3) := dk_184 0 96 (dk_at dksX1_total_0 14 rfl rfl)
theorem dX1_total_17 : decode cX1_total 17 = .ok (.ifCond .eq 17, 3) := dk_153 0 17 (dk_at dksX1_total_0 17 rfl rfl)
theorem dX1_total_20 : decode cX1_total 20 = .ok (.aload_n 0, 1) := dk_42 (dk_at dksX1_total_0 20 rfl rfl)
theorem dX1_total_21 : decode cX1_total 21 = .ok (.getfield 65, 3) := dk_180 0 65 (dk_at dksX1_total_0 21 rfl rfl)
theorem dX1_total_24 : decode cX1_total 24 = .ok (.getfield 391, 3) := dk_180 1 135 (dk_at dksX1_total_1 0 rfl rfl)
theorem dX1_total_27 : decode cX1_total 27 = .ok (.iload_n 1, 1) := dk_27 (dk_at dksX1_total_1 3 rfl rfl)
theorem dX1_total_28 : decode cX1_total 28 = .ok (.aaload, 1) := dk_50 (dk_at dksX1_total_1 4 rfl rfl)
theorem dX1_total_29 : decode cX1_total 29 = .ok (.iload_n 2, 1) := dk_28 (dk_at dksX1_total_1 5 rfl rfl)
theorem dX1_total_30 : decode cX1_total 30 = .ok (.iaload, 1) := dk_46 (dk_at dksX1_total_1 6 rfl rfl)
theorem dX1_total_31 : decode cX1_total 31 = .ok (.goto 6, 3) := dk_167 0 6 (dk_at dksX1_total_1 7 rfl rfl)
theorem dX1_total_34 : decode cX1_total 34 = .ok (.ldc_w 350, 3) := dk_19 1 94 (dk_at dksX1_total_1 10 rfl rfl)
theorem dX1_total_37 : decode cX1_total 37 = .ok (.ireturn, 1) := dk_172 (dk_at dksX1_total_1 13 rfl rfl)
abbrev cX1_by : ByteArray := prog_1_method_42_code
def yX1_by : MethodName := ⟨RX1, "by", "(IIIII)I"⟩
def dkwX1_by_3 : List UInt8 := [21, 4, 21, 5, 182, 1, 154, 172]
abbrev dktX1_by_3 : List UInt8 := dkwX1_by_3 ++ []
def dkwX1_by_2 : List UInt8 := [154, 0, 7, 19, 1, 94, 172, 42, 27, 28, 42, 180, 0, 24, 29, 185, 1, 138, 2, 0, 192, 0, 11]
abbrev dktX1_by_2 : List UInt8 := dkwX1_by_2 ++ dktX1_by_3
def dkwX1_by_1 : List UInt8 := [9, 20, 1, 14, 184, 0, 96, 153, 0, 18, 21, 5, 133, 20, 1, 150, 20, 1, 152, 184, 0, 96]
abbrev dktX1_by_1 : List UInt8 := dkwX1_by_1 ++ dktX1_by_2
def dkwX1_by_0 : List UInt8 := [42, 27, 28, 182, 1, 90, 153, 0, 43, 29, 133, 9, 20, 1, 14, 184, 0, 96, 153, 0, 31, 21, 4, 133]
abbrev dktX1_by_0 : List UInt8 := dkwX1_by_0 ++ dktX1_by_1
theorem dksX1_by_0 : cX1_by.data.toList.drop 0 = dktX1_by_0 := by decide +kernel
theorem dksX1_by_1 : cX1_by.data.toList.drop 24 = dktX1_by_1 := dk_seg dksX1_by_0 24 rfl rfl
theorem dksX1_by_2 : cX1_by.data.toList.drop 46 = dktX1_by_2 := dk_seg dksX1_by_1 22 rfl rfl
theorem dksX1_by_3 : cX1_by.data.toList.drop 69 = dktX1_by_3 := dk_seg dksX1_by_2 23 rfl rfl
theorem dX1_by_0 : decode cX1_by 0 = .ok (.aload_n 0, 1) := dk_42 (dk_at dksX1_by_0 0 rfl rfl)
theorem dX1_by_1 : decode cX1_by 1 = .ok (.iload_n 1, 1) := dk_27 (dk_at dksX1_by_0 1 rfl rfl)
theorem dX1_by_2 : decode cX1_by 2 = .ok (.iload_n 2, 1) := dk_28 (dk_at dksX1_by_0 2 rfl rfl)
theorem dX1_by_3 : decode cX1_by 3 = .ok (.invokevirtual 346, 3) := dk_182 1 90 (dk_at dksX1_by_0 3 rfl rfl)
theorem dX1_by_6 : decode cX1_by 6 = .ok (.ifCond .eq 43, 3) := dk_153 0 43 (dk_at dksX1_by_0 6 rfl rfl)
theorem dX1_by_9 : decode cX1_by 9 = .ok (.iload_n 3, 1) := dk_29 (dk_at dksX1_by_0 9 rfl rfl)
theorem dX1_by_10 : decode cX1_by 10 = .ok (.i2l, 1) := dk_133 (dk_at dksX1_by_0 10 rfl rfl)
theorem dX1_by_11 : decode cX1_by 11 = .ok (.lconst 0, 1) := dk_9 (dk_at dksX1_by_0 11 rfl rfl)
theorem dX1_by_12 : decode cX1_by 12 = .ok (.ldc2_w 270, 3) := dk_20 1 14 (dk_at dksX1_by_0 12 rfl rfl)
theorem dX1_by_15 : decode cX1_by 15 = .ok (.invokestatic 96, 3) := dk_184 0 96 (dk_at dksX1_by_0 15 rfl rfl)
theorem dX1_by_18 : decode cX1_by 18 = .ok (.ifCond .eq 31, 3) := dk_153 0 31 (dk_at dksX1_by_0 18 rfl rfl)
theorem dX1_by_21 : decode cX1_by 21 = .ok (.iload 4, 2) := dk_21 4 (dk_at dksX1_by_0 21 rfl rfl)
theorem dX1_by_23 : decode cX1_by 23 = .ok (.i2l, 1) := dk_133 (dk_at dksX1_by_0 23 rfl rfl)
theorem dX1_by_24 : decode cX1_by 24 = .ok (.lconst 0, 1) := dk_9 (dk_at dksX1_by_1 0 rfl rfl)
theorem dX1_by_25 : decode cX1_by 25 = .ok (.ldc2_w 270, 3) := dk_20 1 14 (dk_at dksX1_by_1 1 rfl rfl)
theorem dX1_by_28 : decode cX1_by 28 = .ok (.invokestatic 96, 3) := dk_184 0 96 (dk_at dksX1_by_1 4 rfl rfl)
theorem dX1_by_31 : decode cX1_by 31 = .ok (.ifCond .eq 18, 3) := dk_153 0 18 (dk_at dksX1_by_1 7 rfl rfl)
theorem dX1_by_34 : decode cX1_by 34 = .ok (.iload 5, 2) := dk_21 5 (dk_at dksX1_by_1 10 rfl rfl)
theorem dX1_by_36 : decode cX1_by 36 = .ok (.i2l, 1) := dk_133 (dk_at dksX1_by_1 12 rfl rfl)
theorem dX1_by_37 : decode cX1_by 37 = .ok (.ldc2_w 406, 3) := dk_20 1 150 (dk_at dksX1_by_1 13 rfl rfl)
theorem dX1_by_40 : decode cX1_by 40 = .ok (.ldc2_w 408, 3) := dk_20 1 152 (dk_at dksX1_by_1 16 rfl rfl)
theorem dX1_by_43 : decode cX1_by 43 = .ok (.invokestatic 96, 3) := dk_184 0 96 (dk_at dksX1_by_1 19 rfl rfl)
theorem dX1_by_46 : decode cX1_by 46 = .ok (.ifCond .ne 7, 3) := dk_154 0 7 (dk_at dksX1_by_2 0 rfl rfl)
theorem dX1_by_49 : decode cX1_by 49 = .ok (.ldc_w 350, 3) := dk_19 1 94 (dk_at dksX1_by_2 3 rfl rfl)
theorem dX1_by_52 : decode cX1_by 52 = .ok (.ireturn, 1) := dk_172 (dk_at dksX1_by_2 6 rfl rfl)
theorem dX1_by_53 : decode cX1_by 53 = .ok (.aload_n 0, 1) := dk_42 (dk_at dksX1_by_2 7 rfl rfl)
theorem dX1_by_54 : decode cX1_by 54 = .ok (.iload_n 1, 1) := dk_27 (dk_at dksX1_by_2 8 rfl rfl)
theorem dX1_by_55 : decode cX1_by 55 = .ok (.iload_n 2, 1) := dk_28 (dk_at dksX1_by_2 9 rfl rfl)
theorem dX1_by_56 : decode cX1_by 56 = .ok (.aload_n 0, 1) := dk_42 (dk_at dksX1_by_2 10 rfl rfl)
theorem dX1_by_57 : decode cX1_by 57 = .ok (.getfield 24, 3) := dk_180 0 24 (dk_at dksX1_by_2 11 rfl rfl)
theorem dX1_by_60 : decode cX1_by 60 = .ok (.iload_n 3, 1) := dk_29 (dk_at dksX1_by_2 14 rfl rfl)
theorem dX1_by_61 : decode cX1_by 61 = .ok (.invokeinterface 394 2, 5) := by decide +kernel
theorem dX1_by_66 : decode cX1_by 66 = .ok (.checkcast 11, 3) := dk_192 0 11 (dk_at dksX1_by_2 20 rfl rfl)
theorem dX1_by_69 : decode cX1_by 69 = .ok (.iload 4, 2) := dk_21 4 (dk_at dksX1_by_3 0 rfl rfl)
theorem dX1_by_71 : decode cX1_by 71 = .ok (.iload 5, 2) := dk_21 5 (dk_at dksX1_by_3 2 rfl rfl)
theorem dX1_by_73 : decode cX1_by 73 = .ok (.invokevirtual 410, 3) := dk_182 1 154 (dk_at dksX1_by_3 4 rfl rfl)
theorem dX1_by_76 : decode cX1_by 76 = .ok (.ireturn, 1) := dk_172 (dk_at dksX1_by_3 7 rfl rfl)
abbrev cX1_backBy : ByteArray := prog_1_method_41_code
def yX1_backBy : MethodName := ⟨RX1, "backBy", "(IILExemptDesk$Way;II)I"⟩
def dkwX1_backBy_2 : List UInt8 := [21, 5, 45, 182, 1, 142, 21, 5, 45, 42, 180, 0, 54, 180, 1, 83, 182, 1, 146, 172]
abbrev dktX1_backBy_2 : List UInt8 := dkwX1_backBy_2 ++ []
def dkwX1_backBy_1 : List UInt8 := [192, 0, 28, 25, 6, 42, 180, 0, 65, 180, 0, 204, 27, 46, 42, 180, 0, 65, 180, 0, 207, 27, 46]
abbrev dktX1_backBy_1 : List UInt8 := dkwX1_backBy_1 ++ dktX1_backBy_2
def dkwX1_backBy_0 : List UInt8 := [42, 180, 0, 65, 27, 28, 182, 1, 68, 58, 6, 25, 6, 42, 180, 0, 31, 21, 4, 185, 1, 138, 2, 0]
abbrev dktX1_backBy_0 : List UInt8 := dkwX1_backBy_0 ++ dktX1_backBy_1
theorem dksX1_backBy_0 : cX1_backBy.data.toList.drop 0 = dktX1_backBy_0 := by decide +kernel
theorem dksX1_backBy_1 : cX1_backBy.data.toList.drop 24 = dktX1_backBy_1 := dk_seg dksX1_backBy_0 24 rfl rfl
theorem dksX1_backBy_2 : cX1_backBy.data.toList.drop 47 = dktX1_backBy_2 := dk_seg dksX1_backBy_1 23 rfl rfl
theorem dX1_backBy_0 : decode cX1_backBy 0 = .ok (.aload_n 0, 1) := dk_42 (dk_at dksX1_backBy_0 0 rfl rfl)
theorem dX1_backBy_1 : decode cX1_backBy 1 = .ok (.getfield 65, 3) := dk_180 0 65 (dk_at dksX1_backBy_0 1 rfl rfl)
theorem dX1_backBy_4 : decode cX1_backBy 4 = .ok (.iload_n 1, 1) := dk_27 (dk_at dksX1_backBy_0 4 rfl rfl)
theorem dX1_backBy_5 : decode cX1_backBy 5 = .ok (.iload_n 2, 1) := dk_28 (dk_at dksX1_backBy_0 5 rfl rfl)
theorem dX1_backBy_6 : decode cX1_backBy 6 = .ok (.invokevirtual 324, 3) := dk_182 1 68 (dk_at dksX1_backBy_0 6 rfl rfl)
theorem dX1_backBy_9 : decode cX1_backBy 9 = .ok (.astore 6, 2) := dk_58 6 (dk_at dksX1_backBy_0 9 rfl rfl)
theorem dX1_backBy_11 : decode cX1_backBy 11 = .ok (.aload 6, 2) := dk_25 6 (dk_at dksX1_backBy_0 11 rfl rfl)
theorem dX1_backBy_13 : decode cX1_backBy 13 = .ok (.aload_n 0, 1) := dk_42 (dk_at dksX1_backBy_0 13 rfl rfl)
theorem dX1_backBy_14 : decode cX1_backBy 14 = .ok (.getfield 31, 3) := dk_180 0 31 (dk_at dksX1_backBy_0 14 rfl rfl)
theorem dX1_backBy_17 : decode cX1_backBy 17 = .ok (.iload 4, 2) := dk_21 4 (dk_at dksX1_backBy_0 17 rfl rfl)
theorem dX1_backBy_19 : decode cX1_backBy 19 = .ok (.invokeinterface 394 2, 5) := by decide +kernel
theorem dX1_backBy_24 : decode cX1_backBy 24 = .ok (.checkcast 28, 3) := dk_192 0 28 (dk_at dksX1_backBy_1 0 rfl rfl)
theorem dX1_backBy_27 : decode cX1_backBy 27 = .ok (.aload 6, 2) := dk_25 6 (dk_at dksX1_backBy_1 3 rfl rfl)
theorem dX1_backBy_29 : decode cX1_backBy 29 = .ok (.aload_n 0, 1) := dk_42 (dk_at dksX1_backBy_1 5 rfl rfl)
theorem dX1_backBy_30 : decode cX1_backBy 30 = .ok (.getfield 65, 3) := dk_180 0 65 (dk_at dksX1_backBy_1 6 rfl rfl)
theorem dX1_backBy_33 : decode cX1_backBy 33 = .ok (.getfield 204, 3) := dk_180 0 204 (dk_at dksX1_backBy_1 9 rfl rfl)
theorem dX1_backBy_36 : decode cX1_backBy 36 = .ok (.iload_n 1, 1) := dk_27 (dk_at dksX1_backBy_1 12 rfl rfl)
theorem dX1_backBy_37 : decode cX1_backBy 37 = .ok (.iaload, 1) := dk_46 (dk_at dksX1_backBy_1 13 rfl rfl)
theorem dX1_backBy_38 : decode cX1_backBy 38 = .ok (.aload_n 0, 1) := dk_42 (dk_at dksX1_backBy_1 14 rfl rfl)
theorem dX1_backBy_39 : decode cX1_backBy 39 = .ok (.getfield 65, 3) := dk_180 0 65 (dk_at dksX1_backBy_1 15 rfl rfl)
theorem dX1_backBy_42 : decode cX1_backBy 42 = .ok (.getfield 207, 3) := dk_180 0 207 (dk_at dksX1_backBy_1 18 rfl rfl)
theorem dX1_backBy_45 : decode cX1_backBy 45 = .ok (.iload_n 1, 1) := dk_27 (dk_at dksX1_backBy_1 21 rfl rfl)
theorem dX1_backBy_46 : decode cX1_backBy 46 = .ok (.iaload, 1) := dk_46 (dk_at dksX1_backBy_1 22 rfl rfl)
theorem dX1_backBy_47 : decode cX1_backBy 47 = .ok (.iload 5, 2) := dk_21 5 (dk_at dksX1_backBy_2 0 rfl rfl)
theorem dX1_backBy_49 : decode cX1_backBy 49 = .ok (.aload_n 3, 1) := dk_45 (dk_at dksX1_backBy_2 2 rfl rfl)
theorem dX1_backBy_50 : decode cX1_backBy 50 = .ok (.invokevirtual 398, 3) := dk_182 1 142 (dk_at dksX1_backBy_2 3 rfl rfl)
theorem dX1_backBy_53 : decode cX1_backBy 53 = .ok (.iload 5, 2) := dk_21 5 (dk_at dksX1_backBy_2 6 rfl rfl)
theorem dX1_backBy_55 : decode cX1_backBy 55 = .ok (.aload_n 3, 1) := dk_45 (dk_at dksX1_backBy_2 8 rfl rfl)
theorem dX1_backBy_56 : decode cX1_backBy 56 = .ok (.aload_n 0, 1) := dk_42 (dk_at dksX1_backBy_2 9 rfl rfl)
theorem dX1_backBy_57 : decode cX1_backBy 57 = .ok (.getfield 54, 3) := dk_180 0 54 (dk_at dksX1_backBy_2 10 rfl rfl)
theorem dX1_backBy_60 : decode cX1_backBy 60 = .ok (.getfield 339, 3) := dk_180 1 83 (dk_at dksX1_backBy_2 13 rfl rfl)
theorem dX1_backBy_63 : decode cX1_backBy 63 = .ok (.invokevirtual 402, 3) := dk_182 1 146 (dk_at dksX1_backBy_2 16 rfl rfl)
theorem dX1_backBy_66 : decode cX1_backBy 66 = .ok (.ireturn, 1) := dk_172 (dk_at dksX1_backBy_2 19 rfl rfl)
abbrev cX1_bestMethod : ByteArray := prog_1_method_43_code
def yX1_bestMethod : MethodName := ⟨RX1, "bestMethod", "(II)I"⟩
def dkwX1_bestMethod_4 : List UInt8 := [164, 0, 6, 21, 4, 62, 132, 4, 1, 167, 255, 190, 29, 172]
abbrev dktX1_bestMethod_4 : List UInt8 := dkwX1_bestMethod_4 ++ []
def dkwX1_bestMethod_3 : List UInt8 := [182, 1, 154, 42, 27, 28, 42, 180, 0, 65, 182, 1, 75, 29, 42, 180, 0, 54, 180, 1, 72, 182, 1, 154]
abbrev dktX1_bestMethod_3 : List UInt8 := dkwX1_bestMethod_3 ++ dktX1_bestMethod_4
def dkwX1_bestMethod_2 : List UInt8 := [162, 0, 58, 42, 27, 28, 42, 180, 0, 65, 182, 1, 75, 21, 4, 42, 180, 0, 54, 180, 1, 72]
abbrev dktX1_bestMethod_2 : List UInt8 := dkwX1_bestMethod_2 ++ dktX1_bestMethod_3
def dkwX1_bestMethod_1 : List UInt8 := [164, 0, 6, 16, 254, 172, 3, 62, 4, 54, 4, 21, 4, 42, 180, 0, 31, 185, 1, 158, 1, 0]
abbrev dktX1_bestMethod_1 : List UInt8 := dkwX1_bestMethod_1 ++ dktX1_bestMethod_2
def dkwX1_bestMethod_0 : List UInt8 := [42, 27, 182, 0, 185, 153, 0, 10, 28, 184, 1, 62, 154, 0, 5, 2, 172, 28, 42, 182, 0, 158]
abbrev dktX1_bestMethod_0 : List UInt8 := dkwX1_bestMethod_0 ++ dktX1_bestMethod_1
theorem dksX1_bestMethod_0 : cX1_bestMethod.data.toList.drop 0 = dktX1_bestMethod_0 := by decide +kernel
theorem dksX1_bestMethod_1 : cX1_bestMethod.data.toList.drop 22 = dktX1_bestMethod_1 := dk_seg dksX1_bestMethod_0 22 rfl rfl
theorem dksX1_bestMethod_2 : cX1_bestMethod.data.toList.drop 44 = dktX1_bestMethod_2 := dk_seg dksX1_bestMethod_1 22 rfl rfl
theorem dksX1_bestMethod_3 : cX1_bestMethod.data.toList.drop 66 = dktX1_bestMethod_3 := dk_seg dksX1_bestMethod_2 22 rfl rfl
theorem dksX1_bestMethod_4 : cX1_bestMethod.data.toList.drop 90 = dktX1_bestMethod_4 := dk_seg dksX1_bestMethod_3 24 rfl rfl
theorem dX1_bestMethod_0 : decode cX1_bestMethod 0 = .ok (.aload_n 0, 1) := dk_42 (dk_at dksX1_bestMethod_0 0 rfl rfl)
theorem dX1_bestMethod_1 : decode cX1_bestMethod 1 = .ok (.iload_n 1, 1) := dk_27 (dk_at dksX1_bestMethod_0 1 rfl rfl)
theorem dX1_bestMethod_2 : decode cX1_bestMethod 2 = .ok (.invokevirtual 185, 3) := dk_182 0 185 (dk_at dksX1_bestMethod_0 2 rfl rfl)
theorem dX1_bestMethod_5 : decode cX1_bestMethod 5 = .ok (.ifCond .eq 10, 3) := dk_153 0 10 (dk_at dksX1_bestMethod_0 5 rfl rfl)
theorem dX1_bestMethod_8 : decode cX1_bestMethod 8 = .ok (.iload_n 2, 1) := dk_28 (dk_at dksX1_bestMethod_0 8 rfl rfl)
theorem dX1_bestMethod_9 : decode cX1_bestMethod 9 = .ok (.invokestatic 318, 3) := dk_184 1 62 (dk_at dksX1_bestMethod_0 9 rfl rfl)
theorem dX1_bestMethod_12 : decode cX1_bestMethod 12 = .ok (.ifCond .ne 5, 3) := dk_154 0 5 (dk_at dksX1_bestMethod_0 12 rfl rfl)
theorem dX1_bestMethod_15 : decode cX1_bestMethod 15 = .ok (.iconst (-1), 1) := dk_2 (dk_at dksX1_bestMethod_0 15 rfl rfl)
theorem dX1_bestMethod_16 : decode cX1_bestMethod 16 = .ok (.ireturn, 1) := dk_172 (dk_at dksX1_bestMethod_0 16 rfl rfl)
theorem dX1_bestMethod_17 : decode cX1_bestMethod 17 = .ok (.iload_n 2, 1) := dk_28 (dk_at dksX1_bestMethod_0 17 rfl rfl)
theorem dX1_bestMethod_18 : decode cX1_bestMethod 18 = .ok (.aload_n 0, 1) := dk_42 (dk_at dksX1_bestMethod_0 18 rfl rfl)
theorem dX1_bestMethod_19 : decode cX1_bestMethod 19 = .ok (.invokevirtual 158, 3) := dk_182 0 158 (dk_at dksX1_bestMethod_0 19 rfl rfl)
theorem dX1_bestMethod_22 : decode cX1_bestMethod 22 = .ok (.if_icmp .le 6, 3) := dk_164 0 6 (dk_at dksX1_bestMethod_1 0 rfl rfl)
theorem dX1_bestMethod_25 : decode cX1_bestMethod 25 = .ok (.bipush (-2), 2) := dk_16 254 (dk_at dksX1_bestMethod_1 3 rfl rfl)
theorem dX1_bestMethod_27 : decode cX1_bestMethod 27 = .ok (.ireturn, 1) := dk_172 (dk_at dksX1_bestMethod_1 5 rfl rfl)
theorem dX1_bestMethod_28 : decode cX1_bestMethod 28 = .ok (.iconst 0, 1) := dk_3 (dk_at dksX1_bestMethod_1 6 rfl rfl)
theorem dX1_bestMethod_29 : decode cX1_bestMethod 29 = .ok (.istore_n 3, 1) := dk_62 (dk_at dksX1_bestMethod_1 7 rfl rfl)
theorem dX1_bestMethod_30 : decode cX1_bestMethod 30 = .ok (.iconst 1, 1) := dk_4 (dk_at dksX1_bestMethod_1 8 rfl rfl)
theorem dX1_bestMethod_31 : decode cX1_bestMethod 31 = .ok (.istore 4, 2) := dk_54 4 (dk_at dksX1_bestMethod_1 9 rfl rfl)
theorem dX1_bestMethod_33 : decode cX1_bestMethod 33 = .ok (.iload 4, 2) := dk_21 4 (dk_at dksX1_bestMethod_1 11 rfl rfl)
theorem dX1_bestMethod_35 : decode cX1_bestMethod 35 = .ok (.aload_n 0, 1) := dk_42 (dk_at dksX1_bestMethod_1 13 rfl rfl)
theorem dX1_bestMethod_36 : decode cX1_bestMethod 36 = .ok (.getfield 31, 3) := dk_180 0 31 (dk_at dksX1_bestMethod_1 14 rfl rfl)
theorem dX1_bestMethod_39 : decode cX1_bestMethod 39 = .ok (.invokeinterface 414 1, 5) := by decide +kernel
theorem dX1_bestMethod_44 : decode cX1_bestMethod 44 = .ok (.if_icmp .ge 58, 3) := dk_162 0 58 (dk_at dksX1_bestMethod_2 0 rfl rfl)
theorem dX1_bestMethod_47 : decode cX1_bestMethod 47 = .ok (.aload_n 0, 1) := dk_42 (dk_at dksX1_bestMethod_2 3 rfl rfl)
theorem dX1_bestMethod_48 : decode cX1_bestMethod 48 = .ok (.iload_n 1, 1) := dk_27 (dk_at dksX1_bestMethod_2 4 rfl rfl)
theorem dX1_bestMethod_49 : decode cX1_bestMethod 49 = .ok (.iload_n 2, 1) := dk_28 (dk_at dksX1_bestMethod_2 5 rfl rfl)
theorem dX1_bestMethod_50 : decode cX1_bestMethod 50 = .ok (.aload_n 0, 1) := dk_42 (dk_at dksX1_bestMethod_2 6 rfl rfl)
theorem dX1_bestMethod_51 : decode cX1_bestMethod 51 = .ok (.getfield 65, 3) := dk_180 0 65 (dk_at dksX1_bestMethod_2 7 rfl rfl)
theorem dX1_bestMethod_54 : decode cX1_bestMethod 54 = .ok (.invokevirtual 331, 3) := dk_182 1 75 (dk_at dksX1_bestMethod_2 10 rfl rfl)
theorem dX1_bestMethod_57 : decode cX1_bestMethod 57 = .ok (.iload 4, 2) := dk_21 4 (dk_at dksX1_bestMethod_2 13 rfl rfl)
theorem dX1_bestMethod_59 : decode cX1_bestMethod 59 = .ok (.aload_n 0, 1) := dk_42 (dk_at dksX1_bestMethod_2 15 rfl rfl)
theorem dX1_bestMethod_60 : decode cX1_bestMethod 60 = .ok (.getfield 54, 3) := dk_180 0 54 (dk_at dksX1_bestMethod_2 16 rfl rfl)
theorem dX1_bestMethod_63 : decode cX1_bestMethod 63 = .ok (.getfield 328, 3) := dk_180 1 72 (dk_at dksX1_bestMethod_2 19 rfl rfl)
theorem dX1_bestMethod_66 : decode cX1_bestMethod 66 = .ok (.invokevirtual 410, 3) := dk_182 1 154 (dk_at dksX1_bestMethod_3 0 rfl rfl)
theorem dX1_bestMethod_69 : decode cX1_bestMethod 69 = .ok (.aload_n 0, 1) := dk_42 (dk_at dksX1_bestMethod_3 3 rfl rfl)
theorem dX1_bestMethod_70 : decode cX1_bestMethod 70 = .ok (.iload_n 1, 1) := dk_27 (dk_at dksX1_bestMethod_3 4 rfl rfl)
theorem dX1_bestMethod_71 : decode cX1_bestMethod 71 = .ok (.iload_n 2, 1) := dk_28 (dk_at dksX1_bestMethod_3 5 rfl rfl)
theorem dX1_bestMethod_72 : decode cX1_bestMethod 72 = .ok (.aload_n 0, 1) := dk_42 (dk_at dksX1_bestMethod_3 6 rfl rfl)
theorem dX1_bestMethod_73 : decode cX1_bestMethod 73 = .ok (.getfield 65, 3) := dk_180 0 65 (dk_at dksX1_bestMethod_3 7 rfl rfl)
theorem dX1_bestMethod_76 : decode cX1_bestMethod 76 = .ok (.invokevirtual 331, 3) := dk_182 1 75 (dk_at dksX1_bestMethod_3 10 rfl rfl)
theorem dX1_bestMethod_79 : decode cX1_bestMethod 79 = .ok (.iload_n 3, 1) := dk_29 (dk_at dksX1_bestMethod_3 13 rfl rfl)
theorem dX1_bestMethod_80 : decode cX1_bestMethod 80 = .ok (.aload_n 0, 1) := dk_42 (dk_at dksX1_bestMethod_3 14 rfl rfl)
theorem dX1_bestMethod_81 : decode cX1_bestMethod 81 = .ok (.getfield 54, 3) := dk_180 0 54 (dk_at dksX1_bestMethod_3 15 rfl rfl)
theorem dX1_bestMethod_84 : decode cX1_bestMethod 84 = .ok (.getfield 328, 3) := dk_180 1 72 (dk_at dksX1_bestMethod_3 18 rfl rfl)
theorem dX1_bestMethod_87 : decode cX1_bestMethod 87 = .ok (.invokevirtual 410, 3) := dk_182 1 154 (dk_at dksX1_bestMethod_3 21 rfl rfl)
theorem dX1_bestMethod_90 : decode cX1_bestMethod 90 = .ok (.if_icmp .le 6, 3) := dk_164 0 6 (dk_at dksX1_bestMethod_4 0 rfl rfl)
theorem dX1_bestMethod_93 : decode cX1_bestMethod 93 = .ok (.iload 4, 2) := dk_21 4 (dk_at dksX1_bestMethod_4 3 rfl rfl)
theorem dX1_bestMethod_95 : decode cX1_bestMethod 95 = .ok (.istore_n 3, 1) := dk_62 (dk_at dksX1_bestMethod_4 5 rfl rfl)
theorem dX1_bestMethod_96 : decode cX1_bestMethod 96 = .ok (.iinc 4 1, 3) := dk_132 4 1 (dk_at dksX1_bestMethod_4 6 rfl rfl)
theorem dX1_bestMethod_99 : decode cX1_bestMethod 99 = .ok (.goto (-66), 3) := dk_167 255 190 (dk_at dksX1_bestMethod_4 9 rfl rfl)
theorem dX1_bestMethod_102 : decode cX1_bestMethod 102 = .ok (.iload_n 3, 1) := dk_29 (dk_at dksX1_bestMethod_4 12 rfl rfl)
theorem dX1_bestMethod_103 : decode cX1_bestMethod 103 = .ok (.ireturn, 1) := dk_172 (dk_at dksX1_bestMethod_4 13 rfl rfl)
abbrev cX1_bestStep : ByteArray := prog_1_method_44_code
def yX1_bestStep : MethodName := ⟨RX1, "bestStep", "(II)I"⟩
def dkwX1_bestStep_5 : List UInt8 := [21, 4, 172]
abbrev dktX1_bestStep_5 : List UInt8 := dkwX1_bestStep_5 ++ []
def dkwX1_bestStep_4 : List UInt8 := [21, 7, 21, 5, 163, 0, 6, 167, 0, 11, 21, 6, 54, 4, 21, 7, 54, 5, 132, 6, 1, 167, 255, 209]
abbrev dktX1_bestStep_4 : List UInt8 := dkwX1_bestStep_4 ++ dktX1_bestStep_5
def dkwX1_bestStep_3 : List UInt8 := [17, 3, 232, 163, 0, 45, 42, 27, 28, 42, 180, 0, 65, 182, 1, 75, 29, 21, 6, 182, 1, 154, 54, 7]
abbrev dktX1_bestStep_3 : List UInt8 := dkwX1_bestStep_3 ++ dktX1_bestStep_4
def dkwX1_bestStep_2 : List UInt8 := [28, 42, 180, 0, 65, 182, 1, 75, 29, 16, 10, 182, 1, 154, 54, 5, 16, 11, 54, 6, 21, 6]
abbrev dktX1_bestStep_2 : List UInt8 := dkwX1_bestStep_2 ++ dktX1_bestStep_3
def dkwX1_bestStep_1 : List UInt8 := [164, 0, 6, 16, 254, 172, 42, 180, 0, 54, 27, 182, 0, 192, 180, 0, 196, 62, 16, 10, 54, 4, 42, 27]
abbrev dktX1_bestStep_1 : List UInt8 := dkwX1_bestStep_1 ++ dktX1_bestStep_2
def dkwX1_bestStep_0 : List UInt8 := [42, 27, 182, 0, 185, 153, 0, 10, 28, 184, 1, 62, 154, 0, 5, 2, 172, 28, 42, 182, 0, 158]
abbrev dktX1_bestStep_0 : List UInt8 := dkwX1_bestStep_0 ++ dktX1_bestStep_1
theorem dksX1_bestStep_0 : cX1_bestStep.data.toList.drop 0 = dktX1_bestStep_0 := by decide +kernel
theorem dksX1_bestStep_1 : cX1_bestStep.data.toList.drop 22 = dktX1_bestStep_1 := dk_seg dksX1_bestStep_0 22 rfl rfl
theorem dksX1_bestStep_2 : cX1_bestStep.data.toList.drop 46 = dktX1_bestStep_2 := dk_seg dksX1_bestStep_1 24 rfl rfl
theorem dksX1_bestStep_3 : cX1_bestStep.data.toList.drop 68 = dktX1_bestStep_3 := dk_seg dksX1_bestStep_2 22 rfl rfl
theorem dksX1_bestStep_4 : cX1_bestStep.data.toList.drop 92 = dktX1_bestStep_4 := dk_seg dksX1_bestStep_3 24 rfl rfl
theorem dksX1_bestStep_5 : cX1_bestStep.data.toList.drop 116 = dktX1_bestStep_5 := dk_seg dksX1_bestStep_4 24 rfl rfl
theorem dX1_bestStep_0 : decode cX1_bestStep 0 = .ok (.aload_n 0, 1) := dk_42 (dk_at dksX1_bestStep_0 0 rfl rfl)
theorem dX1_bestStep_1 : decode cX1_bestStep 1 = .ok (.iload_n 1, 1) := dk_27 (dk_at dksX1_bestStep_0 1 rfl rfl)
theorem dX1_bestStep_2 : decode cX1_bestStep 2 = .ok (.invokevirtual 185, 3) := dk_182 0 185 (dk_at dksX1_bestStep_0 2 rfl rfl)
theorem dX1_bestStep_5 : decode cX1_bestStep 5 = .ok (.ifCond .eq 10, 3) := dk_153 0 10 (dk_at dksX1_bestStep_0 5 rfl rfl)
theorem dX1_bestStep_8 : decode cX1_bestStep 8 = .ok (.iload_n 2, 1) := dk_28 (dk_at dksX1_bestStep_0 8 rfl rfl)
theorem dX1_bestStep_9 : decode cX1_bestStep 9 = .ok (.invokestatic 318, 3) := dk_184 1 62 (dk_at dksX1_bestStep_0 9 rfl rfl)
theorem dX1_bestStep_12 : decode cX1_bestStep 12 = .ok (.ifCond .ne 5, 3) := dk_154 0 5 (dk_at dksX1_bestStep_0 12 rfl rfl)
theorem dX1_bestStep_15 : decode cX1_bestStep 15 = .ok (.iconst (-1), 1) := dk_2 (dk_at dksX1_bestStep_0 15 rfl rfl)
theorem dX1_bestStep_16 : decode cX1_bestStep 16 = .ok (.ireturn, 1) := dk_172 (dk_at dksX1_bestStep_0 16 rfl rfl)
theorem dX1_bestStep_17 : decode cX1_bestStep 17 = .ok (.iload_n 2, 1) := dk_28 (dk_at dksX1_bestStep_0 17 rfl rfl)
theorem dX1_bestStep_18 : decode cX1_bestStep 18 = .ok (.aload_n 0, 1) := dk_42 (dk_at dksX1_bestStep_0 18 rfl rfl)
theorem dX1_bestStep_19 : decode cX1_bestStep 19 = .ok (.invokevirtual 158, 3) := dk_182 0 158 (dk_at dksX1_bestStep_0 19 rfl rfl)
theorem dX1_bestStep_22 : decode cX1_bestStep 22 = .ok (.if_icmp .le 6, 3) := dk_164 0 6 (dk_at dksX1_bestStep_1 0 rfl rfl)
theorem dX1_bestStep_25 : decode cX1_bestStep 25 = .ok (.bipush (-2), 2) := dk_16 254 (dk_at dksX1_bestStep_1 3 rfl rfl)
theorem dX1_bestStep_27 : decode cX1_bestStep 27 = .ok (.ireturn, 1) := dk_172 (dk_at dksX1_bestStep_1 5 rfl rfl)
theorem dX1_bestStep_28 : decode cX1_bestStep 28 = .ok (.aload_n 0, 1) := dk_42 (dk_at dksX1_bestStep_1 6 rfl rfl)
theorem dX1_bestStep_29 : decode cX1_bestStep 29 = .ok (.getfield 54, 3) := dk_180 0 54 (dk_at dksX1_bestStep_1 7 rfl rfl)
theorem dX1_bestStep_32 : decode cX1_bestStep 32 = .ok (.iload_n 1, 1) := dk_27 (dk_at dksX1_bestStep_1 10 rfl rfl)
theorem dX1_bestStep_33 : decode cX1_bestStep 33 = .ok (.invokevirtual 192, 3) := dk_182 0 192 (dk_at dksX1_bestStep_1 11 rfl rfl)
theorem dX1_bestStep_36 : decode cX1_bestStep 36 = .ok (.getfield 196, 3) := dk_180 0 196 (dk_at dksX1_bestStep_1 14 rfl rfl)
theorem dX1_bestStep_39 : decode cX1_bestStep 39 = .ok (.istore_n 3, 1) := dk_62 (dk_at dksX1_bestStep_1 17 rfl rfl)
theorem dX1_bestStep_40 : decode cX1_bestStep 40 = .ok (.bipush 10, 2) := dk_16 10 (dk_at dksX1_bestStep_1 18 rfl rfl)
theorem dX1_bestStep_42 : decode cX1_bestStep 42 = .ok (.istore 4, 2) := dk_54 4 (dk_at dksX1_bestStep_1 20 rfl rfl)
theorem dX1_bestStep_44 : decode cX1_bestStep 44 = .ok (.aload_n 0, 1) := dk_42 (dk_at dksX1_bestStep_1 22 rfl rfl)
theorem dX1_bestStep_45 : decode cX1_bestStep 45 = .ok (.iload_n 1, 1) := dk_27 (dk_at dksX1_bestStep_1 23 rfl rfl)
theorem dX1_bestStep_46 : decode cX1_bestStep 46 = .ok (.iload_n 2, 1) := dk_28 (dk_at dksX1_bestStep_2 0 rfl rfl)
theorem dX1_bestStep_47 : decode cX1_bestStep 47 = .ok (.aload_n 0, 1) := dk_42 (dk_at dksX1_bestStep_2 1 rfl rfl)
theorem dX1_bestStep_48 : decode cX1_bestStep 48 = .ok (.getfield 65, 3) := dk_180 0 65 (dk_at dksX1_bestStep_2 2 rfl rfl)
theorem dX1_bestStep_51 : decode cX1_bestStep 51 = .ok (.invokevirtual 331, 3) := dk_182 1 75 (dk_at dksX1_bestStep_2 5 rfl rfl)
theorem dX1_bestStep_54 : decode cX1_bestStep 54 = .ok (.iload_n 3, 1) := dk_29 (dk_at dksX1_bestStep_2 8 rfl rfl)
theorem dX1_bestStep_55 : decode cX1_bestStep 55 = .ok (.bipush 10, 2) := dk_16 10 (dk_at dksX1_bestStep_2 9 rfl rfl)
theorem dX1_bestStep_57 : decode cX1_bestStep 57 = .ok (.invokevirtual 410, 3) := dk_182 1 154 (dk_at dksX1_bestStep_2 11 rfl rfl)
theorem dX1_bestStep_60 : decode cX1_bestStep 60 = .ok (.istore 5, 2) := dk_54 5 (dk_at dksX1_bestStep_2 14 rfl rfl)
theorem dX1_bestStep_62 : decode cX1_bestStep 62 = .ok (.bipush 11, 2) := dk_16 11 (dk_at dksX1_bestStep_2 16 rfl rfl)
theorem dX1_bestStep_64 : decode cX1_bestStep 64 = .ok (.istore 6, 2) := dk_54 6 (dk_at dksX1_bestStep_2 18 rfl rfl)
theorem dX1_bestStep_66 : decode cX1_bestStep 66 = .ok (.iload 6, 2) := dk_21 6 (dk_at dksX1_bestStep_2 20 rfl rfl)
theorem dX1_bestStep_68 : decode cX1_bestStep 68 = .ok (.sipush 1000, 3) := dk_17 3 232 (dk_at dksX1_bestStep_3 0 rfl rfl)
theorem dX1_bestStep_71 : decode cX1_bestStep 71 = .ok (.if_icmp .gt 45, 3) := dk_163 0 45 (dk_at dksX1_bestStep_3 3 rfl rfl)
theorem dX1_bestStep_74 : decode cX1_bestStep 74 = .ok (.aload_n 0, 1) := dk_42 (dk_at dksX1_bestStep_3 6 rfl rfl)
theorem dX1_bestStep_75 : decode cX1_bestStep 75 = .ok (.iload_n 1, 1) := dk_27 (dk_at dksX1_bestStep_3 7 rfl rfl)
theorem dX1_bestStep_76 : decode cX1_bestStep 76 = .ok (.iload_n 2, 1) := dk_28 (dk_at dksX1_bestStep_3 8 rfl rfl)
theorem dX1_bestStep_77 : decode cX1_bestStep 77 = .ok (.aload_n 0, 1) := dk_42 (dk_at dksX1_bestStep_3 9 rfl rfl)
theorem dX1_bestStep_78 : decode cX1_bestStep 78 = .ok (.getfield 65, 3) := dk_180 0 65 (dk_at dksX1_bestStep_3 10 rfl rfl)
theorem dX1_bestStep_81 : decode cX1_bestStep 81 = .ok (.invokevirtual 331, 3) := dk_182 1 75 (dk_at dksX1_bestStep_3 13 rfl rfl)
theorem dX1_bestStep_84 : decode cX1_bestStep 84 = .ok (.iload_n 3, 1) := dk_29 (dk_at dksX1_bestStep_3 16 rfl rfl)
theorem dX1_bestStep_85 : decode cX1_bestStep 85 = .ok (.iload 6, 2) := dk_21 6 (dk_at dksX1_bestStep_3 17 rfl rfl)
theorem dX1_bestStep_87 : decode cX1_bestStep 87 = .ok (.invokevirtual 410, 3) := dk_182 1 154 (dk_at dksX1_bestStep_3 19 rfl rfl)
theorem dX1_bestStep_90 : decode cX1_bestStep 90 = .ok (.istore 7, 2) := dk_54 7 (dk_at dksX1_bestStep_3 22 rfl rfl)
theorem dX1_bestStep_92 : decode cX1_bestStep 92 = .ok (.iload 7, 2) := dk_21 7 (dk_at dksX1_bestStep_4 0 rfl rfl)
theorem dX1_bestStep_94 : decode cX1_bestStep 94 = .ok (.iload 5, 2) := dk_21 5 (dk_at dksX1_bestStep_4 2 rfl rfl)
theorem dX1_bestStep_96 : decode cX1_bestStep 96 = .ok (.if_icmp .gt 6, 3) := dk_163 0 6 (dk_at dksX1_bestStep_4 4 rfl rfl)
theorem dX1_bestStep_99 : decode cX1_bestStep 99 = .ok (.goto 11, 3) := dk_167 0 11 (dk_at dksX1_bestStep_4 7 rfl rfl)
theorem dX1_bestStep_102 : decode cX1_bestStep 102 = .ok (.iload 6, 2) := dk_21 6 (dk_at dksX1_bestStep_4 10 rfl rfl)
theorem dX1_bestStep_104 : decode cX1_bestStep 104 = .ok (.istore 4, 2) := dk_54 4 (dk_at dksX1_bestStep_4 12 rfl rfl)
theorem dX1_bestStep_106 : decode cX1_bestStep 106 = .ok (.iload 7, 2) := dk_21 7 (dk_at dksX1_bestStep_4 14 rfl rfl)
theorem dX1_bestStep_108 : decode cX1_bestStep 108 = .ok (.istore 5, 2) := dk_54 5 (dk_at dksX1_bestStep_4 16 rfl rfl)
theorem dX1_bestStep_110 : decode cX1_bestStep 110 = .ok (.iinc 6 1, 3) := dk_132 6 1 (dk_at dksX1_bestStep_4 18 rfl rfl)
theorem dX1_bestStep_113 : decode cX1_bestStep 113 = .ok (.goto (-47), 3) := dk_167 255 209 (dk_at dksX1_bestStep_4 21 rfl rfl)
theorem dX1_bestStep_116 : decode cX1_bestStep 116 = .ok (.iload 4, 2) := dk_21 4 (dk_at dksX1_bestStep_5 0 rfl rfl)
theorem dX1_bestStep_118 : decode cX1_bestStep 118 = .ok (.ireturn, 1) := dk_172 (dk_at dksX1_bestStep_5 2 rfl rfl)
abbrev cX1_joint : ByteArray := prog_1_method_45_code
def yX1_joint : MethodName := ⟨RX1, "joint", "(III)I"⟩
def dkwX1_joint_7 : List UInt8 := [180, 0, 54, 180, 1, 83, 182, 1, 146, 172]
abbrev dktX1_joint_7 : List UInt8 := dkwX1_joint_7 ++ []
def dkwX1_joint_6 : List UInt8 := [54, 4, 42, 180, 0, 82, 21, 4, 42, 180, 0, 54, 180, 1, 72, 42, 180, 0, 65, 182, 1, 75, 42]
abbrev dktX1_joint_6 : List UInt8 := dkwX1_joint_6 ++ dktX1_joint_7
def dkwX1_joint_5 : List UInt8 := [180, 0, 207, 28, 46, 96, 42, 180, 0, 54, 180, 1, 72, 42, 180, 0, 65, 182, 1, 75, 182, 1, 142]
abbrev dktX1_joint_5 : List UInt8 := dkwX1_joint_5 ++ dktX1_joint_6
def dkwX1_joint_4 : List UInt8 := [42, 180, 0, 65, 180, 0, 204, 28, 46, 96, 42, 180, 0, 65, 180, 0, 207, 27, 46, 42, 180, 0, 65]
abbrev dktX1_joint_4 : List UInt8 := dkwX1_joint_4 ++ dktX1_joint_5
def dkwX1_joint_3 : List UInt8 := [180, 0, 196, 185, 1, 138, 2, 0, 192, 0, 28, 42, 180, 0, 82, 42, 180, 0, 65, 180, 0, 204, 27, 46]
abbrev dktX1_joint_3 : List UInt8 := dkwX1_joint_3 ++ dktX1_joint_4
def dkwX1_joint_2 : List UInt8 := [42, 180, 0, 65, 28, 29, 182, 1, 68, 182, 1, 162, 42, 180, 0, 31, 42, 180, 0, 54, 27, 182, 0, 192]
abbrev dktX1_joint_2 : List UInt8 := dkwX1_joint_2 ++ dktX1_joint_3
def dkwX1_joint_1 : List UInt8 := [19, 1, 94, 172, 42, 180, 0, 82, 42, 180, 0, 65, 27, 29, 182, 1, 68, 182, 1, 159, 42, 180, 0, 82]
abbrev dktX1_joint_1 : List UInt8 := dkwX1_joint_1 ++ dktX1_joint_2
def dkwX1_joint_0 : List UInt8 := [42, 27, 29, 182, 1, 90, 153, 0, 16, 42, 28, 182, 0, 185, 153, 0, 8, 27, 28, 160, 0, 7]
abbrev dktX1_joint_0 : List UInt8 := dkwX1_joint_0 ++ dktX1_joint_1
theorem dksX1_joint_0 : cX1_joint.data.toList.drop 0 = dktX1_joint_0 := by decide +kernel
theorem dksX1_joint_1 : cX1_joint.data.toList.drop 22 = dktX1_joint_1 := dk_seg dksX1_joint_0 22 rfl rfl
theorem dksX1_joint_2 : cX1_joint.data.toList.drop 46 = dktX1_joint_2 := dk_seg dksX1_joint_1 24 rfl rfl
theorem dksX1_joint_3 : cX1_joint.data.toList.drop 70 = dktX1_joint_3 := dk_seg dksX1_joint_2 24 rfl rfl
theorem dksX1_joint_4 : cX1_joint.data.toList.drop 94 = dktX1_joint_4 := dk_seg dksX1_joint_3 24 rfl rfl
theorem dksX1_joint_5 : cX1_joint.data.toList.drop 117 = dktX1_joint_5 := dk_seg dksX1_joint_4 23 rfl rfl
theorem dksX1_joint_6 : cX1_joint.data.toList.drop 140 = dktX1_joint_6 := dk_seg dksX1_joint_5 23 rfl rfl
theorem dksX1_joint_7 : cX1_joint.data.toList.drop 163 = dktX1_joint_7 := dk_seg dksX1_joint_6 23 rfl rfl
theorem dX1_joint_0 : decode cX1_joint 0 = .ok (.aload_n 0, 1) := dk_42 (dk_at dksX1_joint_0 0 rfl rfl)
theorem dX1_joint_1 : decode cX1_joint 1 = .ok (.iload_n 1, 1) := dk_27 (dk_at dksX1_joint_0 1 rfl rfl)
theorem dX1_joint_2 : decode cX1_joint 2 = .ok (.iload_n 3, 1) := dk_29 (dk_at dksX1_joint_0 2 rfl rfl)
theorem dX1_joint_3 : decode cX1_joint 3 = .ok (.invokevirtual 346, 3) := dk_182 1 90 (dk_at dksX1_joint_0 3 rfl rfl)
theorem dX1_joint_6 : decode cX1_joint 6 = .ok (.ifCond .eq 16, 3) := dk_153 0 16 (dk_at dksX1_joint_0 6 rfl rfl)
theorem dX1_joint_9 : decode cX1_joint 9 = .ok (.aload_n 0, 1) := dk_42 (dk_at dksX1_joint_0 9 rfl rfl)
theorem dX1_joint_10 : decode cX1_joint 10 = .ok (.iload_n 2, 1) := dk_28 (dk_at dksX1_joint_0 10 rfl rfl)
theorem dX1_joint_11 : decode cX1_joint 11 = .ok (.invokevirtual 185, 3) := dk_182 0 185 (dk_at dksX1_joint_0 11 rfl rfl)
theorem dX1_joint_14 : decode cX1_joint 14 = .ok (.ifCond .eq 8, 3) := dk_153 0 8 (dk_at dksX1_joint_0 14 rfl rfl)
theorem dX1_joint_17 : decode cX1_joint 17 = .ok (.iload_n 1, 1) := dk_27 (dk_at dksX1_joint_0 17 rfl rfl)
theorem dX1_joint_18 : decode cX1_joint 18 = .ok (.iload_n 2, 1) := dk_28 (dk_at dksX1_joint_0 18 rfl rfl)
theorem dX1_joint_19 : decode cX1_joint 19 = .ok (.if_icmp .ne 7, 3) := dk_160 0 7 (dk_at dksX1_joint_0 19 rfl rfl)
theorem dX1_joint_22 : decode cX1_joint 22 = .ok (.ldc_w 350, 3) := dk_19 1 94 (dk_at dksX1_joint_1 0 rfl rfl)
theorem dX1_joint_25 : decode cX1_joint 25 = .ok (.ireturn, 1) := dk_172 (dk_at dksX1_joint_1 3 rfl rfl)
theorem dX1_joint_26 : decode cX1_joint 26 = .ok (.aload_n 0, 1) := dk_42 (dk_at dksX1_joint_1 4 rfl rfl)
theorem dX1_joint_27 : decode cX1_joint 27 = .ok (.getfield 82, 3) := dk_180 0 82 (dk_at dksX1_joint_1 5 rfl rfl)
theorem dX1_joint_30 : decode cX1_joint 30 = .ok (.aload_n 0, 1) := dk_42 (dk_at dksX1_joint_1 8 rfl rfl)
theorem dX1_joint_31 : decode cX1_joint 31 = .ok (.getfield 65, 3) := dk_180 0 65 (dk_at dksX1_joint_1 9 rfl rfl)
theorem dX1_joint_34 : decode cX1_joint 34 = .ok (.iload_n 1, 1) := dk_27 (dk_at dksX1_joint_1 12 rfl rfl)
theorem dX1_joint_35 : decode cX1_joint 35 = .ok (.iload_n 3, 1) := dk_29 (dk_at dksX1_joint_1 13 rfl rfl)
theorem dX1_joint_36 : decode cX1_joint 36 = .ok (.invokevirtual 324, 3) := dk_182 1 68 (dk_at dksX1_joint_1 14 rfl rfl)
theorem dX1_joint_39 : decode cX1_joint 39 = .ok (.invokevirtual 415, 3) := dk_182 1 159 (dk_at dksX1_joint_1 17 rfl rfl)
theorem dX1_joint_42 : decode cX1_joint 42 = .ok (.aload_n 0, 1) := dk_42 (dk_at dksX1_joint_1 20 rfl rfl)
theorem dX1_joint_43 : decode cX1_joint 43 = .ok (.getfield 82, 3) := dk_180 0 82 (dk_at dksX1_joint_1 21 rfl rfl)
theorem dX1_joint_46 : decode cX1_joint 46 = .ok (.aload_n 0, 1) := dk_42 (dk_at dksX1_joint_2 0 rfl rfl)
theorem dX1_joint_47 : decode cX1_joint 47 = .ok (.getfield 65, 3) := dk_180 0 65 (dk_at dksX1_joint_2 1 rfl rfl)
theorem dX1_joint_50 : decode cX1_joint 50 = .ok (.iload_n 2, 1) := dk_28 (dk_at dksX1_joint_2 4 rfl rfl)
theorem dX1_joint_51 : decode cX1_joint 51 = .ok (.iload_n 3, 1) := dk_29 (dk_at dksX1_joint_2 5 rfl rfl)
theorem dX1_joint_52 : decode cX1_joint 52 = .ok (.invokevirtual 324, 3) := dk_182 1 68 (dk_at dksX1_joint_2 6 rfl rfl)
theorem dX1_joint_55 : decode cX1_joint 55 = .ok (.invokevirtual 418, 3) := dk_182 1 162 (dk_at dksX1_joint_2 9 rfl rfl)
theorem dX1_joint_58 : decode cX1_joint 58 = .ok (.aload_n 0, 1) := dk_42 (dk_at dksX1_joint_2 12 rfl rfl)
theorem dX1_joint_59 : decode cX1_joint 59 = .ok (.getfield 31, 3) := dk_180 0 31 (dk_at dksX1_joint_2 13 rfl rfl)
theorem dX1_joint_62 : decode cX1_joint 62 = .ok (.aload_n 0, 1) := dk_42 (dk_at dksX1_joint_2 16 rfl rfl)
theorem dX1_joint_63 : decode cX1_joint 63 = .ok (.getfield 54, 3) := dk_180 0 54 (dk_at dksX1_joint_2 17 rfl rfl)
theorem dX1_joint_66 : decode cX1_joint 66 = .ok (.iload_n 1, 1) := dk_27 (dk_at dksX1_joint_2 20 rfl rfl)
theorem dX1_joint_67 : decode cX1_joint 67 = .ok (.invokevirtual 192, 3) := dk_182 0 192 (dk_at dksX1_joint_2 21 rfl rfl)
theorem dX1_joint_70 : decode cX1_joint 70 = .ok (.getfield 196, 3) := dk_180 0 196 (dk_at dksX1_joint_3 0 rfl rfl)
theorem dX1_joint_73 : decode cX1_joint 73 = .ok (.invokeinterface 394 2, 5) := by decide +kernel
theorem dX1_joint_78 : decode cX1_joint 78 = .ok (.checkcast 28, 3) := dk_192 0 28 (dk_at dksX1_joint_3 8 rfl rfl)
theorem dX1_joint_81 : decode cX1_joint 81 = .ok (.aload_n 0, 1) := dk_42 (dk_at dksX1_joint_3 11 rfl rfl)
theorem dX1_joint_82 : decode cX1_joint 82 = .ok (.getfield 82, 3) := dk_180 0 82 (dk_at dksX1_joint_3 12 rfl rfl)
theorem dX1_joint_85 : decode cX1_joint 85 = .ok (.aload_n 0, 1) := dk_42 (dk_at dksX1_joint_3 15 rfl rfl)
theorem dX1_joint_86 : decode cX1_joint 86 = .ok (.getfield 65, 3) := dk_180 0 65 (dk_at dksX1_joint_3 16 rfl rfl)
theorem dX1_joint_89 : decode cX1_joint 89 = .ok (.getfield 204, 3) := dk_180 0 204 (dk_at dksX1_joint_3 19 rfl rfl)
theorem dX1_joint_92 : decode cX1_joint 92 = .ok (.iload_n 1, 1) := dk_27 (dk_at dksX1_joint_3 22 rfl rfl)
theorem dX1_joint_93 : decode cX1_joint 93 = .ok (.iaload, 1) := dk_46 (dk_at dksX1_joint_3 23 rfl rfl)
theorem dX1_joint_94 : decode cX1_joint 94 = .ok (.aload_n 0, 1) := dk_42 (dk_at dksX1_joint_4 0 rfl rfl)
theorem dX1_joint_95 : decode cX1_joint 95 = .ok (.getfield 65, 3) := dk_180 0 65 (dk_at dksX1_joint_4 1 rfl rfl)
theorem dX1_joint_98 : decode cX1_joint 98 = .ok (.getfield 204, 3) := dk_180 0 204 (dk_at dksX1_joint_4 4 rfl rfl)
theorem dX1_joint_101 : decode cX1_joint 101 = .ok (.iload_n 2, 1) := dk_28 (dk_at dksX1_joint_4 7 rfl rfl)
theorem dX1_joint_102 : decode cX1_joint 102 = .ok (.iaload, 1) := dk_46 (dk_at dksX1_joint_4 8 rfl rfl)
theorem dX1_joint_103 : decode cX1_joint 103 = .ok (.iadd, 1) := dk_96 (dk_at dksX1_joint_4 9 rfl rfl)
theorem dX1_joint_104 : decode cX1_joint 104 = .ok (.aload_n 0, 1) := dk_42 (dk_at dksX1_joint_4 10 rfl rfl)
theorem dX1_joint_105 : decode cX1_joint 105 = .ok (.getfield 65, 3) := dk_180 0 65 (dk_at dksX1_joint_4 11 rfl rfl)
theorem dX1_joint_108 : decode cX1_joint 108 = .ok (.getfield 207, 3) := dk_180 0 207 (dk_at dksX1_joint_4 14 rfl rfl)
theorem dX1_joint_111 : decode cX1_joint 111 = .ok (.iload_n 1, 1) := dk_27 (dk_at dksX1_joint_4 17 rfl rfl)
theorem dX1_joint_112 : decode cX1_joint 112 = .ok (.iaload, 1) := dk_46 (dk_at dksX1_joint_4 18 rfl rfl)
theorem dX1_joint_113 : decode cX1_joint 113 = .ok (.aload_n 0, 1) := dk_42 (dk_at dksX1_joint_4 19 rfl rfl)
theorem dX1_joint_114 : decode cX1_joint 114 = .ok (.getfield 65, 3) := dk_180 0 65 (dk_at dksX1_joint_4 20 rfl rfl)
theorem dX1_joint_117 : decode cX1_joint 117 = .ok (.getfield 207, 3) := dk_180 0 207 (dk_at dksX1_joint_5 0 rfl rfl)
theorem dX1_joint_120 : decode cX1_joint 120 = .ok (.iload_n 2, 1) := dk_28 (dk_at dksX1_joint_5 3 rfl rfl)
theorem dX1_joint_121 : decode cX1_joint 121 = .ok (.iaload, 1) := dk_46 (dk_at dksX1_joint_5 4 rfl rfl)
theorem dX1_joint_122 : decode cX1_joint 122 = .ok (.iadd, 1) := dk_96 (dk_at dksX1_joint_5 5 rfl rfl)
theorem dX1_joint_123 : decode cX1_joint 123 = .ok (.aload_n 0, 1) := dk_42 (dk_at dksX1_joint_5 6 rfl rfl)
theorem dX1_joint_124 : decode cX1_joint 124 = .ok (.getfield 54, 3) := dk_180 0 54 (dk_at dksX1_joint_5 7 rfl rfl)
theorem dX1_joint_127 : decode cX1_joint 127 = .ok (.getfield 328, 3) := dk_180 1 72 (dk_at dksX1_joint_5 10 rfl rfl)
theorem dX1_joint_130 : decode cX1_joint 130 = .ok (.aload_n 0, 1) := dk_42 (dk_at dksX1_joint_5 13 rfl rfl)
theorem dX1_joint_131 : decode cX1_joint 131 = .ok (.getfield 65, 3) := dk_180 0 65 (dk_at dksX1_joint_5 14 rfl rfl)
theorem dX1_joint_134 : decode cX1_joint 134 = .ok (.invokevirtual 331, 3) := dk_182 1 75 (dk_at dksX1_joint_5 17 rfl rfl)
theorem dX1_joint_137 : decode cX1_joint 137 = .ok (.invokevirtual 398, 3) := dk_182 1 142 (dk_at dksX1_joint_5 20 rfl rfl)
theorem dX1_joint_140 : decode cX1_joint 140 = .ok (.istore 4, 2) := dk_54 4 (dk_at dksX1_joint_6 0 rfl rfl)
theorem dX1_joint_142 : decode cX1_joint 142 = .ok (.aload_n 0, 1) := dk_42 (dk_at dksX1_joint_6 2 rfl rfl)
theorem dX1_joint_143 : decode cX1_joint 143 = .ok (.getfield 82, 3) := dk_180 0 82 (dk_at dksX1_joint_6 3 rfl rfl)
theorem dX1_joint_146 : decode cX1_joint 146 = .ok (.iload 4, 2) := dk_21 4 (dk_at dksX1_joint_6 6 rfl rfl)
theorem dX1_joint_148 : decode cX1_joint 148 = .ok (.aload_n 0, 1) := dk_42 (dk_at dksX1_joint_6 8 rfl rfl)
theorem dX1_joint_149 : decode cX1_joint 149 = .ok (.getfield 54, 3) := dk_180 0 54 (dk_at dksX1_joint_6 9 rfl rfl)
theorem dX1_joint_152 : decode cX1_joint 152 = .ok (.getfield 328, 3) := dk_180 1 72 (dk_at dksX1_joint_6 12 rfl rfl)
theorem dX1_joint_155 : decode cX1_joint 155 = .ok (.aload_n 0, 1) := dk_42 (dk_at dksX1_joint_6 15 rfl rfl)
theorem dX1_joint_156 : decode cX1_joint 156 = .ok (.getfield 65, 3) := dk_180 0 65 (dk_at dksX1_joint_6 16 rfl rfl)
theorem dX1_joint_159 : decode cX1_joint 159 = .ok (.invokevirtual 331, 3) := dk_182 1 75 (dk_at dksX1_joint_6 19 rfl rfl)
theorem dX1_joint_162 : decode cX1_joint 162 = .ok (.aload_n 0, 1) := dk_42 (dk_at dksX1_joint_6 22 rfl rfl)
theorem dX1_joint_163 : decode cX1_joint 163 = .ok (.getfield 54, 3) := dk_180 0 54 (dk_at dksX1_joint_7 0 rfl rfl)
theorem dX1_joint_166 : decode cX1_joint 166 = .ok (.getfield 339, 3) := dk_180 1 83 (dk_at dksX1_joint_7 3 rfl rfl)
theorem dX1_joint_169 : decode cX1_joint 169 = .ok (.invokevirtual 402, 3) := dk_182 1 146 (dk_at dksX1_joint_7 6 rfl rfl)
theorem dX1_joint_172 : decode cX1_joint 172 = .ok (.ireturn, 1) := dk_172 (dk_at dksX1_joint_7 9 rfl rfl)
abbrev cX1_limitFor : ByteArray := prog_1_method_46_code
def yX1_limitFor : MethodName := ⟨RX1, "limitFor", "(II)I"⟩
def dkwX1_limitFor_4 : List UInt8 := [22, 5, 136, 167, 0, 5, 16, 254, 172]
abbrev dktX1_limitFor_4 : List UInt8 := dkwX1_limitFor_4 ++ []
def dkwX1_limitFor_3 : List UInt8 := [182, 1, 75, 182, 1, 79, 101, 55, 5, 20, 1, 14, 22, 5, 105, 25, 4, 182, 1, 165, 148, 157, 0, 9]
abbrev dktX1_limitFor_3 : List UInt8 := dkwX1_limitFor_3 ++ dktX1_limitFor_4
def dkwX1_limitFor_2 : List UInt8 := [182, 1, 68, 58, 4, 25, 4, 182, 1, 165, 25, 4, 29, 42, 180, 0, 54, 180, 1, 72, 42, 180, 0, 65]
abbrev dktX1_limitFor_2 : List UInt8 := dkwX1_limitFor_2 ++ dktX1_limitFor_3
def dkwX1_limitFor_1 : List UInt8 := [164, 0, 6, 16, 254, 172, 42, 180, 0, 65, 27, 28, 182, 1, 65, 62, 42, 180, 0, 65, 27, 28]
abbrev dktX1_limitFor_1 : List UInt8 := dkwX1_limitFor_1 ++ dktX1_limitFor_2
def dkwX1_limitFor_0 : List UInt8 := [42, 27, 182, 0, 185, 153, 0, 10, 28, 184, 1, 62, 154, 0, 5, 2, 172, 28, 42, 182, 0, 158]
abbrev dktX1_limitFor_0 : List UInt8 := dkwX1_limitFor_0 ++ dktX1_limitFor_1
theorem dksX1_limitFor_0 : cX1_limitFor.data.toList.drop 0 = dktX1_limitFor_0 := by decide +kernel
theorem dksX1_limitFor_1 : cX1_limitFor.data.toList.drop 22 = dktX1_limitFor_1 := dk_seg dksX1_limitFor_0 22 rfl rfl
theorem dksX1_limitFor_2 : cX1_limitFor.data.toList.drop 44 = dktX1_limitFor_2 := dk_seg dksX1_limitFor_1 22 rfl rfl
theorem dksX1_limitFor_3 : cX1_limitFor.data.toList.drop 68 = dktX1_limitFor_3 := dk_seg dksX1_limitFor_2 24 rfl rfl
theorem dksX1_limitFor_4 : cX1_limitFor.data.toList.drop 92 = dktX1_limitFor_4 := dk_seg dksX1_limitFor_3 24 rfl rfl
theorem dX1_limitFor_0 : decode cX1_limitFor 0 = .ok (.aload_n 0, 1) := dk_42 (dk_at dksX1_limitFor_0 0 rfl rfl)
theorem dX1_limitFor_1 : decode cX1_limitFor 1 = .ok (.iload_n 1, 1) := dk_27 (dk_at dksX1_limitFor_0 1 rfl rfl)
theorem dX1_limitFor_2 : decode cX1_limitFor 2 = .ok (.invokevirtual 185, 3) := dk_182 0 185 (dk_at dksX1_limitFor_0 2 rfl rfl)
theorem dX1_limitFor_5 : decode cX1_limitFor 5 = .ok (.ifCond .eq 10, 3) := dk_153 0 10 (dk_at dksX1_limitFor_0 5 rfl rfl)
theorem dX1_limitFor_8 : decode cX1_limitFor 8 = .ok (.iload_n 2, 1) := dk_28 (dk_at dksX1_limitFor_0 8 rfl rfl)
theorem dX1_limitFor_9 : decode cX1_limitFor 9 = .ok (.invokestatic 318, 3) := dk_184 1 62 (dk_at dksX1_limitFor_0 9 rfl rfl)
theorem dX1_limitFor_12 : decode cX1_limitFor 12 = .ok (.ifCond .ne 5, 3) := dk_154 0 5 (dk_at dksX1_limitFor_0 12 rfl rfl)
theorem dX1_limitFor_15 : decode cX1_limitFor 15 = .ok (.iconst (-1), 1) := dk_2 (dk_at dksX1_limitFor_0 15 rfl rfl)
theorem dX1_limitFor_16 : decode cX1_limitFor 16 = .ok (.ireturn, 1) := dk_172 (dk_at dksX1_limitFor_0 16 rfl rfl)
theorem dX1_limitFor_17 : decode cX1_limitFor 17 = .ok (.iload_n 2, 1) := dk_28 (dk_at dksX1_limitFor_0 17 rfl rfl)
theorem dX1_limitFor_18 : decode cX1_limitFor 18 = .ok (.aload_n 0, 1) := dk_42 (dk_at dksX1_limitFor_0 18 rfl rfl)
theorem dX1_limitFor_19 : decode cX1_limitFor 19 = .ok (.invokevirtual 158, 3) := dk_182 0 158 (dk_at dksX1_limitFor_0 19 rfl rfl)
theorem dX1_limitFor_22 : decode cX1_limitFor 22 = .ok (.if_icmp .le 6, 3) := dk_164 0 6 (dk_at dksX1_limitFor_1 0 rfl rfl)
theorem dX1_limitFor_25 : decode cX1_limitFor 25 = .ok (.bipush (-2), 2) := dk_16 254 (dk_at dksX1_limitFor_1 3 rfl rfl)
theorem dX1_limitFor_27 : decode cX1_limitFor 27 = .ok (.ireturn, 1) := dk_172 (dk_at dksX1_limitFor_1 5 rfl rfl)
theorem dX1_limitFor_28 : decode cX1_limitFor 28 = .ok (.aload_n 0, 1) := dk_42 (dk_at dksX1_limitFor_1 6 rfl rfl)
theorem dX1_limitFor_29 : decode cX1_limitFor 29 = .ok (.getfield 65, 3) := dk_180 0 65 (dk_at dksX1_limitFor_1 7 rfl rfl)
theorem dX1_limitFor_32 : decode cX1_limitFor 32 = .ok (.iload_n 1, 1) := dk_27 (dk_at dksX1_limitFor_1 10 rfl rfl)
theorem dX1_limitFor_33 : decode cX1_limitFor 33 = .ok (.iload_n 2, 1) := dk_28 (dk_at dksX1_limitFor_1 11 rfl rfl)
theorem dX1_limitFor_34 : decode cX1_limitFor 34 = .ok (.invokevirtual 321, 3) := dk_182 1 65 (dk_at dksX1_limitFor_1 12 rfl rfl)
theorem dX1_limitFor_37 : decode cX1_limitFor 37 = .ok (.istore_n 3, 1) := dk_62 (dk_at dksX1_limitFor_1 15 rfl rfl)
theorem dX1_limitFor_38 : decode cX1_limitFor 38 = .ok (.aload_n 0, 1) := dk_42 (dk_at dksX1_limitFor_1 16 rfl rfl)
theorem dX1_limitFor_39 : decode cX1_limitFor 39 = .ok (.getfield 65, 3) := dk_180 0 65 (dk_at dksX1_limitFor_1 17 rfl rfl)
theorem dX1_limitFor_42 : decode cX1_limitFor 42 = .ok (.iload_n 1, 1) := dk_27 (dk_at dksX1_limitFor_1 20 rfl rfl)
theorem dX1_limitFor_43 : decode cX1_limitFor 43 = .ok (.iload_n 2, 1) := dk_28 (dk_at dksX1_limitFor_1 21 rfl rfl)
theorem dX1_limitFor_44 : decode cX1_limitFor 44 = .ok (.invokevirtual 324, 3) := dk_182 1 68 (dk_at dksX1_limitFor_2 0 rfl rfl)
theorem dX1_limitFor_47 : decode cX1_limitFor 47 = .ok (.astore 4, 2) := dk_58 4 (dk_at dksX1_limitFor_2 3 rfl rfl)
theorem dX1_limitFor_49 : decode cX1_limitFor 49 = .ok (.aload 4, 2) := dk_25 4 (dk_at dksX1_limitFor_2 5 rfl rfl)
theorem dX1_limitFor_51 : decode cX1_limitFor 51 = .ok (.invokevirtual 421, 3) := dk_182 1 165 (dk_at dksX1_limitFor_2 7 rfl rfl)
theorem dX1_limitFor_54 : decode cX1_limitFor 54 = .ok (.aload 4, 2) := dk_25 4 (dk_at dksX1_limitFor_2 10 rfl rfl)
theorem dX1_limitFor_56 : decode cX1_limitFor 56 = .ok (.iload_n 3, 1) := dk_29 (dk_at dksX1_limitFor_2 12 rfl rfl)
theorem dX1_limitFor_57 : decode cX1_limitFor 57 = .ok (.aload_n 0, 1) := dk_42 (dk_at dksX1_limitFor_2 13 rfl rfl)
theorem dX1_limitFor_58 : decode cX1_limitFor 58 = .ok (.getfield 54, 3) := dk_180 0 54 (dk_at dksX1_limitFor_2 14 rfl rfl)
theorem dX1_limitFor_61 : decode cX1_limitFor 61 = .ok (.getfield 328, 3) := dk_180 1 72 (dk_at dksX1_limitFor_2 17 rfl rfl)
theorem dX1_limitFor_64 : decode cX1_limitFor 64 = .ok (.aload_n 0, 1) := dk_42 (dk_at dksX1_limitFor_2 20 rfl rfl)
theorem dX1_limitFor_65 : decode cX1_limitFor 65 = .ok (.getfield 65, 3) := dk_180 0 65 (dk_at dksX1_limitFor_2 21 rfl rfl)
theorem dX1_limitFor_68 : decode cX1_limitFor 68 = .ok (.invokevirtual 331, 3) := dk_182 1 75 (dk_at dksX1_limitFor_3 0 rfl rfl)
theorem dX1_limitFor_71 : decode cX1_limitFor 71 = .ok (.invokevirtual 335, 3) := dk_182 1 79 (dk_at dksX1_limitFor_3 3 rfl rfl)
theorem dX1_limitFor_74 : decode cX1_limitFor 74 = .ok (.lsub, 1) := dk_101 (dk_at dksX1_limitFor_3 6 rfl rfl)
theorem dX1_limitFor_75 : decode cX1_limitFor 75 = .ok (.lstore 5, 2) := dk_55 5 (dk_at dksX1_limitFor_3 7 rfl rfl)
theorem dX1_limitFor_77 : decode cX1_limitFor 77 = .ok (.ldc2_w 270, 3) := dk_20 1 14 (dk_at dksX1_limitFor_3 9 rfl rfl)
theorem dX1_limitFor_80 : decode cX1_limitFor 80 = .ok (.lload 5, 2) := dk_22 5 (dk_at dksX1_limitFor_3 12 rfl rfl)
theorem dX1_limitFor_82 : decode cX1_limitFor 82 = .ok (.lmul, 1) := dk_105 (dk_at dksX1_limitFor_3 14 rfl rfl)
theorem dX1_limitFor_83 : decode cX1_limitFor 83 = .ok (.aload 4, 2) := dk_25 4 (dk_at dksX1_limitFor_3 15 rfl rfl)
theorem dX1_limitFor_85 : decode cX1_limitFor 85 = .ok (.invokevirtual 421, 3) := dk_182 1 165 (dk_at dksX1_limitFor_3 17 rfl rfl)
theorem dX1_limitFor_88 : decode cX1_limitFor 88 = .ok (.lcmp, 1) := dk_148 (dk_at dksX1_limitFor_3 20 rfl rfl)
theorem dX1_limitFor_89 : decode cX1_limitFor 89 = .ok (.ifCond .gt 9, 3) := dk_157 0 9 (dk_at dksX1_limitFor_3 21 rfl rfl)
theorem dX1_limitFor_92 : decode cX1_limitFor 92 = .ok (.lload 5, 2) := dk_22 5 (dk_at dksX1_limitFor_4 0 rfl rfl)
theorem dX1_limitFor_94 : decode cX1_limitFor 94 = .ok (.l2i, 1) := dk_136 (dk_at dksX1_limitFor_4 2 rfl rfl)
theorem dX1_limitFor_95 : decode cX1_limitFor 95 = .ok (.goto 5, 3) := dk_167 0 5 (dk_at dksX1_limitFor_4 3 rfl rfl)
theorem dX1_limitFor_98 : decode cX1_limitFor 98 = .ok (.bipush (-2), 2) := dk_16 254 (dk_at dksX1_limitFor_4 6 rfl rfl)
theorem dX1_limitFor_100 : decode cX1_limitFor 100 = .ok (.ireturn, 1) := dk_172 (dk_at dksX1_limitFor_4 8 rfl rfl)
abbrev cX1_byBasis : ByteArray := prog_1_method_47_code
def yX1_byBasis : MethodName := ⟨RX1, "byBasis", "(III)I"⟩
def dkwX1_byBasis_7 : List UInt8 := [182, 1, 146, 172]
abbrev dktX1_byBasis_7 : List UInt8 := dkwX1_byBasis_7 ++ []
def dkwX1_byBasis_6 : List UInt8 := [42, 180, 0, 54, 180, 1, 72, 42, 180, 0, 65, 182, 1, 75, 42, 180, 0, 54, 180, 1, 83, 7, 108]
abbrev dktX1_byBasis_6 : List UInt8 := dkwX1_byBasis_6 ++ dktX1_byBasis_7
def dkwX1_byBasis_5 : List UInt8 := [21, 4, 2, 159, 0, 17, 21, 4, 42, 180, 0, 54, 180, 1, 72, 184, 1, 175, 54, 6, 25, 5, 21, 6]
abbrev dktX1_byBasis_5 : List UInt8 := dkwX1_byBasis_5 ++ dktX1_byBasis_6
def dkwX1_byBasis_4 : List UInt8 := [180, 0, 65, 180, 1, 172, 27, 50, 28, 7, 108, 4, 100, 46, 54, 6, 167, 0, 28, 29, 4, 160, 0, 23]
abbrev dktX1_byBasis_4 : List UInt8 := dkwX1_byBasis_4 ++ dktX1_byBasis_5
def dkwX1_byBasis_3 : List UInt8 := [180, 0, 65, 27, 25, 5, 182, 1, 168, 54, 6, 29, 4, 160, 0, 28, 28, 6, 164, 0, 23, 42]
abbrev dktX1_byBasis_3 : List UInt8 := dkwX1_byBasis_3 ++ dktX1_byBasis_4
def dkwX1_byBasis_2 : List UInt8 := [182, 0, 192, 180, 0, 210, 54, 4, 42, 180, 0, 65, 180, 1, 7, 27, 50, 28, 50, 58, 5, 42]
abbrev dktX1_byBasis_2 : List UInt8 := dkwX1_byBasis_2 ++ dktX1_byBasis_3
def dkwX1_byBasis_1 : List UInt8 := [153, 0, 13, 29, 133, 9, 10, 184, 0, 96, 154, 0, 7, 19, 1, 94, 172, 42, 180, 0, 54, 27]
abbrev dktX1_byBasis_1 : List UInt8 := dkwX1_byBasis_1 ++ dktX1_byBasis_2
def dkwX1_byBasis_0 : List UInt8 := [42, 27, 182, 0, 185, 153, 0, 32, 28, 133, 9, 42, 180, 0, 65, 180, 0, 142, 4, 100, 133, 184, 0, 96]
abbrev dktX1_byBasis_0 : List UInt8 := dkwX1_byBasis_0 ++ dktX1_byBasis_1
theorem dksX1_byBasis_0 : cX1_byBasis.data.toList.drop 0 = dktX1_byBasis_0 := by decide +kernel
theorem dksX1_byBasis_1 : cX1_byBasis.data.toList.drop 24 = dktX1_byBasis_1 := dk_seg dksX1_byBasis_0 24 rfl rfl
theorem dksX1_byBasis_2 : cX1_byBasis.data.toList.drop 46 = dktX1_byBasis_2 := dk_seg dksX1_byBasis_1 22 rfl rfl
theorem dksX1_byBasis_3 : cX1_byBasis.data.toList.drop 68 = dktX1_byBasis_3 := dk_seg dksX1_byBasis_2 22 rfl rfl
theorem dksX1_byBasis_4 : cX1_byBasis.data.toList.drop 90 = dktX1_byBasis_4 := dk_seg dksX1_byBasis_3 22 rfl rfl
theorem dksX1_byBasis_5 : cX1_byBasis.data.toList.drop 114 = dktX1_byBasis_5 := dk_seg dksX1_byBasis_4 24 rfl rfl
theorem dksX1_byBasis_6 : cX1_byBasis.data.toList.drop 138 = dktX1_byBasis_6 := dk_seg dksX1_byBasis_5 24 rfl rfl
theorem dksX1_byBasis_7 : cX1_byBasis.data.toList.drop 161 = dktX1_byBasis_7 := dk_seg dksX1_byBasis_6 23 rfl rfl
theorem dX1_byBasis_0 : decode cX1_byBasis 0 = .ok (.aload_n 0, 1) := dk_42 (dk_at dksX1_byBasis_0 0 rfl rfl)
theorem dX1_byBasis_1 : decode cX1_byBasis 1 = .ok (.iload_n 1, 1) := dk_27 (dk_at dksX1_byBasis_0 1 rfl rfl)
theorem dX1_byBasis_2 : decode cX1_byBasis 2 = .ok (.invokevirtual 185, 3) := dk_182 0 185 (dk_at dksX1_byBasis_0 2 rfl rfl)
theorem dX1_byBasis_5 : decode cX1_byBasis 5 = .ok (.ifCond .eq 32, 3) := dk_153 0 32 (dk_at dksX1_byBasis_0 5 rfl rfl)
theorem dX1_byBasis_8 : decode cX1_byBasis 8 = .ok (.iload_n 2, 1) := dk_28 (dk_at dksX1_byBasis_0 8 rfl rfl)
theorem dX1_byBasis_9 : decode cX1_byBasis 9 = .ok (.i2l, 1) := dk_133 (dk_at dksX1_byBasis_0 9 rfl rfl)
theorem dX1_byBasis_10 : decode cX1_byBasis 10 = .ok (.lconst 0, 1) := dk_9 (dk_at dksX1_byBasis_0 10 rfl rfl)
theorem dX1_byBasis_11 : decode cX1_byBasis 11 = .ok (.aload_n 0, 1) := dk_42 (dk_at dksX1_byBasis_0 11 rfl rfl)
theorem dX1_byBasis_12 : decode cX1_byBasis 12 = .ok (.getfield 65, 3) := dk_180 0 65 (dk_at dksX1_byBasis_0 12 rfl rfl)
theorem dX1_byBasis_15 : decode cX1_byBasis 15 = .ok (.getfield 142, 3) := dk_180 0 142 (dk_at dksX1_byBasis_0 15 rfl rfl)
theorem dX1_byBasis_18 : decode cX1_byBasis 18 = .ok (.iconst 1, 1) := dk_4 (dk_at dksX1_byBasis_0 18 rfl rfl)
theorem dX1_byBasis_19 : decode cX1_byBasis 19 = .ok (.isub, 1) := dk_100 (dk_at dksX1_byBasis_0 19 rfl rfl)
theorem dX1_byBasis_20 : decode cX1_byBasis 20 = .ok (.i2l, 1) := dk_133 (dk_at dksX1_byBasis_0 20 rfl rfl)
theorem dX1_byBasis_21 : decode cX1_byBasis 21 = .ok (.invokestatic 96, 3) := dk_184 0 96 (dk_at dksX1_byBasis_0 21 rfl rfl)
theorem dX1_byBasis_24 : decode cX1_byBasis 24 = .ok (.ifCond .eq 13, 3) := dk_153 0 13 (dk_at dksX1_byBasis_1 0 rfl rfl)
theorem dX1_byBasis_27 : decode cX1_byBasis 27 = .ok (.iload_n 3, 1) := dk_29 (dk_at dksX1_byBasis_1 3 rfl rfl)
theorem dX1_byBasis_28 : decode cX1_byBasis 28 = .ok (.i2l, 1) := dk_133 (dk_at dksX1_byBasis_1 4 rfl rfl)
theorem dX1_byBasis_29 : decode cX1_byBasis 29 = .ok (.lconst 0, 1) := dk_9 (dk_at dksX1_byBasis_1 5 rfl rfl)
theorem dX1_byBasis_30 : decode cX1_byBasis 30 = .ok (.lconst 1, 1) := dk_10 (dk_at dksX1_byBasis_1 6 rfl rfl)
theorem dX1_byBasis_31 : decode cX1_byBasis 31 = .ok (.invokestatic 96, 3) := dk_184 0 96 (dk_at dksX1_byBasis_1 7 rfl rfl)
theorem dX1_byBasis_34 : decode cX1_byBasis 34 = .ok (.ifCond .ne 7, 3) := dk_154 0 7 (dk_at dksX1_byBasis_1 10 rfl rfl)
theorem dX1_byBasis_37 : decode cX1_byBasis 37 = .ok (.ldc_w 350, 3) := dk_19 1 94 (dk_at dksX1_byBasis_1 13 rfl rfl)
theorem dX1_byBasis_40 : decode cX1_byBasis 40 = .ok (.ireturn, 1) := dk_172 (dk_at dksX1_byBasis_1 16 rfl rfl)
theorem dX1_byBasis_41 : decode cX1_byBasis 41 = .ok (.aload_n 0, 1) := dk_42 (dk_at dksX1_byBasis_1 17 rfl rfl)
theorem dX1_byBasis_42 : decode cX1_byBasis 42 = .ok (.getfield 54, 3) := dk_180 0 54 (dk_at dksX1_byBasis_1 18 rfl rfl)
theorem dX1_byBasis_45 : decode cX1_byBasis 45 = .ok (.iload_n 1, 1) := dk_27 (dk_at dksX1_byBasis_1 21 rfl rfl)
theorem dX1_byBasis_46 : decode cX1_byBasis 46 = .ok (.invokevirtual 192, 3) := dk_182 0 192 (dk_at dksX1_byBasis_2 0 rfl rfl)
theorem dX1_byBasis_49 : decode cX1_byBasis 49 = .ok (.getfield 210, 3) := dk_180 0 210 (dk_at dksX1_byBasis_2 3 rfl rfl)
theorem dX1_byBasis_52 : decode cX1_byBasis 52 = .ok (.istore 4, 2) := dk_54 4 (dk_at dksX1_byBasis_2 6 rfl rfl)
theorem dX1_byBasis_54 : decode cX1_byBasis 54 = .ok (.aload_n 0, 1) := dk_42 (dk_at dksX1_byBasis_2 8 rfl rfl)
theorem dX1_byBasis_55 : decode cX1_byBasis 55 = .ok (.getfield 65, 3) := dk_180 0 65 (dk_at dksX1_byBasis_2 9 rfl rfl)
theorem dX1_byBasis_58 : decode cX1_byBasis 58 = .ok (.getfield 263, 3) := dk_180 1 7 (dk_at dksX1_byBasis_2 12 rfl rfl)
theorem dX1_byBasis_61 : decode cX1_byBasis 61 = .ok (.iload_n 1, 1) := dk_27 (dk_at dksX1_byBasis_2 15 rfl rfl)
theorem dX1_byBasis_62 : decode cX1_byBasis 62 = .ok (.aaload, 1) := dk_50 (dk_at dksX1_byBasis_2 16 rfl rfl)
theorem dX1_byBasis_63 : decode cX1_byBasis 63 = .ok (.iload_n 2, 1) := dk_28 (dk_at dksX1_byBasis_2 17 rfl rfl)
theorem dX1_byBasis_64 : decode cX1_byBasis 64 = .ok (.aaload, 1) := dk_50 (dk_at dksX1_byBasis_2 18 rfl rfl)
theorem dX1_byBasis_65 : decode cX1_byBasis 65 = .ok (.astore 5, 2) := dk_58 5 (dk_at dksX1_byBasis_2 19 rfl rfl)
theorem dX1_byBasis_67 : decode cX1_byBasis 67 = .ok (.aload_n 0, 1) := dk_42 (dk_at dksX1_byBasis_2 21 rfl rfl)
theorem dX1_byBasis_68 : decode cX1_byBasis 68 = .ok (.getfield 65, 3) := dk_180 0 65 (dk_at dksX1_byBasis_3 0 rfl rfl)
theorem dX1_byBasis_71 : decode cX1_byBasis 71 = .ok (.iload_n 1, 1) := dk_27 (dk_at dksX1_byBasis_3 3 rfl rfl)
theorem dX1_byBasis_72 : decode cX1_byBasis 72 = .ok (.aload 5, 2) := dk_25 5 (dk_at dksX1_byBasis_3 4 rfl rfl)
theorem dX1_byBasis_74 : decode cX1_byBasis 74 = .ok (.invokevirtual 424, 3) := dk_182 1 168 (dk_at dksX1_byBasis_3 6 rfl rfl)
theorem dX1_byBasis_77 : decode cX1_byBasis 77 = .ok (.istore 6, 2) := dk_54 6 (dk_at dksX1_byBasis_3 9 rfl rfl)
theorem dX1_byBasis_79 : decode cX1_byBasis 79 = .ok (.iload_n 3, 1) := dk_29 (dk_at dksX1_byBasis_3 11 rfl rfl)
theorem dX1_byBasis_80 : decode cX1_byBasis 80 = .ok (.iconst 1, 1) := dk_4 (dk_at dksX1_byBasis_3 12 rfl rfl)
theorem dX1_byBasis_81 : decode cX1_byBasis 81 = .ok (.if_icmp .ne 28, 3) := dk_160 0 28 (dk_at dksX1_byBasis_3 13 rfl rfl)
theorem dX1_byBasis_84 : decode cX1_byBasis 84 = .ok (.iload_n 2, 1) := dk_28 (dk_at dksX1_byBasis_3 16 rfl rfl)
theorem dX1_byBasis_85 : decode cX1_byBasis 85 = .ok (.iconst 3, 1) := dk_6 (dk_at dksX1_byBasis_3 17 rfl rfl)
theorem dX1_byBasis_86 : decode cX1_byBasis 86 = .ok (.if_icmp .le 23, 3) := dk_164 0 23 (dk_at dksX1_byBasis_3 18 rfl rfl)
theorem dX1_byBasis_89 : decode cX1_byBasis 89 = .ok (.aload_n 0, 1) := dk_42 (dk_at dksX1_byBasis_3 21 rfl rfl)
theorem dX1_byBasis_90 : decode cX1_byBasis 90 = .ok (.getfield 65, 3) := dk_180 0 65 (dk_at dksX1_byBasis_4 0 rfl rfl)
theorem dX1_byBasis_93 : decode cX1_byBasis 93 = .ok (.getfield 428, 3) := dk_180 1 172 (dk_at dksX1_byBasis_4 3 rfl rfl)
theorem dX1_byBasis_96 : decode cX1_byBasis 96 = .ok (.iload_n 1, 1) := dk_27 (dk_at dksX1_byBasis_4 6 rfl rfl)
theorem dX1_byBasis_97 : decode cX1_byBasis 97 = .ok (.aaload, 1) := dk_50 (dk_at dksX1_byBasis_4 7 rfl rfl)
theorem dX1_byBasis_98 : decode cX1_byBasis 98 = .ok (.iload_n 2, 1) := dk_28 (dk_at dksX1_byBasis_4 8 rfl rfl)
theorem dX1_byBasis_99 : decode cX1_byBasis 99 = .ok (.iconst 4, 1) := dk_7 (dk_at dksX1_byBasis_4 9 rfl rfl)
theorem dX1_byBasis_100 : decode cX1_byBasis 100 = .ok (.idiv, 1) := dk_108 (dk_at dksX1_byBasis_4 10 rfl rfl)
theorem dX1_byBasis_101 : decode cX1_byBasis 101 = .ok (.iconst 1, 1) := dk_4 (dk_at dksX1_byBasis_4 11 rfl rfl)
theorem dX1_byBasis_102 : decode cX1_byBasis 102 = .ok (.isub, 1) := dk_100 (dk_at dksX1_byBasis_4 12 rfl rfl)
theorem dX1_byBasis_103 : decode cX1_byBasis 103 = .ok (.iaload, 1) := dk_46 (dk_at dksX1_byBasis_4 13 rfl rfl)
theorem dX1_byBasis_104 : decode cX1_byBasis 104 = .ok (.istore 6, 2) := dk_54 6 (dk_at dksX1_byBasis_4 14 rfl rfl)
theorem dX1_byBasis_106 : decode cX1_byBasis 106 = .ok (.goto 28, 3) := dk_167 0 28 (dk_at dksX1_byBasis_4 16 rfl rfl)
theorem dX1_byBasis_109 : decode cX1_byBasis 109 = .ok (.iload_n 3, 1) := dk_29 (dk_at dksX1_byBasis_4 19 rfl rfl)
theorem dX1_byBasis_110 : decode cX1_byBasis 110 = .ok (.iconst 1, 1) := dk_4 (dk_at dksX1_byBasis_4 20 rfl rfl)
theorem dX1_byBasis_111 : decode cX1_byBasis 111 = .ok (.if_icmp .ne 23, 3) := dk_160 0 23 (dk_at dksX1_byBasis_4 21 rfl rfl)
theorem dX1_byBasis_114 : decode cX1_byBasis 114 = .ok (.iload 4, 2) := dk_21 4 (dk_at dksX1_byBasis_5 0 rfl rfl)
theorem dX1_byBasis_116 : decode cX1_byBasis 116 = .ok (.iconst (-1), 1) := dk_2 (dk_at dksX1_byBasis_5 2 rfl rfl)
theorem dX1_byBasis_117 : decode cX1_byBasis 117 = .ok (.if_icmp .eq 17, 3) := dk_159 0 17 (dk_at dksX1_byBasis_5 3 rfl rfl)
theorem dX1_byBasis_120 : decode cX1_byBasis 120 = .ok (.iload 4, 2) := dk_21 4 (dk_at dksX1_byBasis_5 6 rfl rfl)
theorem dX1_byBasis_122 : decode cX1_byBasis 122 = .ok (.aload_n 0, 1) := dk_42 (dk_at dksX1_byBasis_5 8 rfl rfl)
theorem dX1_byBasis_123 : decode cX1_byBasis 123 = .ok (.getfield 54, 3) := dk_180 0 54 (dk_at dksX1_byBasis_5 9 rfl rfl)
theorem dX1_byBasis_126 : decode cX1_byBasis 126 = .ok (.getfield 328, 3) := dk_180 1 72 (dk_at dksX1_byBasis_5 12 rfl rfl)
theorem dX1_byBasis_129 : decode cX1_byBasis 129 = .ok (.invokestatic 431, 3) := dk_184 1 175 (dk_at dksX1_byBasis_5 15 rfl rfl)
theorem dX1_byBasis_132 : decode cX1_byBasis 132 = .ok (.istore 6, 2) := dk_54 6 (dk_at dksX1_byBasis_5 18 rfl rfl)
theorem dX1_byBasis_134 : decode cX1_byBasis 134 = .ok (.aload 5, 2) := dk_25 5 (dk_at dksX1_byBasis_5 20 rfl rfl)
theorem dX1_byBasis_136 : decode cX1_byBasis 136 = .ok (.iload 6, 2) := dk_21 6 (dk_at dksX1_byBasis_5 22 rfl rfl)
theorem dX1_byBasis_138 : decode cX1_byBasis 138 = .ok (.aload_n 0, 1) := dk_42 (dk_at dksX1_byBasis_6 0 rfl rfl)
theorem dX1_byBasis_139 : decode cX1_byBasis 139 = .ok (.getfield 54, 3) := dk_180 0 54 (dk_at dksX1_byBasis_6 1 rfl rfl)
theorem dX1_byBasis_142 : decode cX1_byBasis 142 = .ok (.getfield 328, 3) := dk_180 1 72 (dk_at dksX1_byBasis_6 4 rfl rfl)
theorem dX1_byBasis_145 : decode cX1_byBasis 145 = .ok (.aload_n 0, 1) := dk_42 (dk_at dksX1_byBasis_6 7 rfl rfl)
theorem dX1_byBasis_146 : decode cX1_byBasis 146 = .ok (.getfield 65, 3) := dk_180 0 65 (dk_at dksX1_byBasis_6 8 rfl rfl)
theorem dX1_byBasis_149 : decode cX1_byBasis 149 = .ok (.invokevirtual 331, 3) := dk_182 1 75 (dk_at dksX1_byBasis_6 11 rfl rfl)
theorem dX1_byBasis_152 : decode cX1_byBasis 152 = .ok (.aload_n 0, 1) := dk_42 (dk_at dksX1_byBasis_6 14 rfl rfl)
theorem dX1_byBasis_153 : decode cX1_byBasis 153 = .ok (.getfield 54, 3) := dk_180 0 54 (dk_at dksX1_byBasis_6 15 rfl rfl)
theorem dX1_byBasis_156 : decode cX1_byBasis 156 = .ok (.getfield 339, 3) := dk_180 1 83 (dk_at dksX1_byBasis_6 18 rfl rfl)
theorem dX1_byBasis_159 : decode cX1_byBasis 159 = .ok (.iconst 4, 1) := dk_7 (dk_at dksX1_byBasis_6 21 rfl rfl)
theorem dX1_byBasis_160 : decode cX1_byBasis 160 = .ok (.idiv, 1) := dk_108 (dk_at dksX1_byBasis_6 22 rfl rfl)
theorem dX1_byBasis_161 : decode cX1_byBasis 161 = .ok (.invokevirtual 402, 3) := dk_182 1 146 (dk_at dksX1_byBasis_7 0 rfl rfl)
theorem dX1_byBasis_164 : decode cX1_byBasis 164 = .ok (.ireturn, 1) := dk_172 (dk_at dksX1_byBasis_7 3 rfl rfl)
abbrev cX1_leader : ByteArray := prog_1_method_48_code
def yX1_leader : MethodName := ⟨RX1, "leader", "(I)I"⟩
def dkwX1_leader_3 : List UInt8 := [172]
abbrev dktX1_leader_3 : List UInt8 := dkwX1_leader_3 ++ []
def dkwX1_leader_2 : List UInt8 := [182, 1, 95, 42, 180, 0, 65, 28, 27, 182, 1, 95, 164, 0, 5, 29, 61, 132, 3, 1, 167, 255, 213, 28]
abbrev dktX1_leader_2 : List UInt8 := dkwX1_leader_2 ++ dktX1_leader_3
def dkwX1_leader_1 : List UInt8 := [62, 29, 42, 180, 0, 54, 182, 0, 128, 162, 0, 38, 28, 16, 254, 159, 0, 24, 42, 180, 0, 65, 29, 27]
abbrev dktX1_leader_1 : List UInt8 := dkwX1_leader_1 ++ dktX1_leader_2
def dkwX1_leader_0 : List UInt8 := [27, 184, 1, 62, 154, 0, 5, 2, 172, 27, 42, 182, 0, 158, 164, 0, 6, 16, 254, 172, 16, 254, 61, 3]
abbrev dktX1_leader_0 : List UInt8 := dkwX1_leader_0 ++ dktX1_leader_1
theorem dksX1_leader_0 : cX1_leader.data.toList.drop 0 = dktX1_leader_0 := by decide +kernel
theorem dksX1_leader_1 : cX1_leader.data.toList.drop 24 = dktX1_leader_1 := dk_seg dksX1_leader_0 24 rfl rfl
theorem dksX1_leader_2 : cX1_leader.data.toList.drop 48 = dktX1_leader_2 := dk_seg dksX1_leader_1 24 rfl rfl
theorem dksX1_leader_3 : cX1_leader.data.toList.drop 72 = dktX1_leader_3 := dk_seg dksX1_leader_2 24 rfl rfl
theorem dX1_leader_0 : decode cX1_leader 0 = .ok (.iload_n 1, 1) := dk_27 (dk_at dksX1_leader_0 0 rfl rfl)
theorem dX1_leader_1 : decode cX1_leader 1 = .ok (.invokestatic 318, 3) := dk_184 1 62 (dk_at dksX1_leader_0 1 rfl rfl)
theorem dX1_leader_4 : decode cX1_leader 4 = .ok (.ifCond .ne 5, 3) := dk_154 0 5 (dk_at dksX1_leader_0 4 rfl rfl)
theorem dX1_leader_7 : decode cX1_leader 7 = .ok (.iconst (-1), 1) := dk_2 (dk_at dksX1_leader_0 7 rfl rfl)
theorem dX1_leader_8 : decode cX1_leader 8 = .ok (.ireturn, 1) := dk_172 (dk_at dksX1_leader_0 8 rfl rfl)
theorem dX1_leader_9 : decode cX1_leader 9 = .ok (.iload_n 1, 1) := dk_27 (dk_at dksX1_leader_0 9 rfl rfl)
theorem dX1_leader_10 : decode cX1_leader 10 = .ok (.aload_n 0, 1) := dk_42 (dk_at dksX1_leader_0 10 rfl rfl)
theorem dX1_leader_11 : decode cX1_leader 11 = .ok (.invokevirtual 158, 3) := dk_182 0 158 (dk_at dksX1_leader_0 11 rfl rfl)
theorem dX1_leader_14 : decode cX1_leader 14 = .ok (.if_icmp .le 6, 3) := dk_164 0 6 (dk_at dksX1_leader_0 14 rfl rfl)
theorem dX1_leader_17 : decode cX1_leader 17 = .ok (.bipush (-2), 2) := dk_16 254 (dk_at dksX1_leader_0 17 rfl rfl)
theorem dX1_leader_19 : decode cX1_leader 19 = .ok (.ireturn, 1) := dk_172 (dk_at dksX1_leader_0 19 rfl rfl)
theorem dX1_leader_20 : decode cX1_leader 20 = .ok (.bipush (-2), 2) := dk_16 254 (dk_at dksX1_leader_0 20 rfl rfl)
theorem dX1_leader_22 : decode cX1_leader 22 = .ok (.istore_n 2, 1) := dk_61 (dk_at dksX1_leader_0 22 rfl rfl)
theorem dX1_leader_23 : decode cX1_leader 23 = .ok (.iconst 0, 1) := dk_3 (dk_at dksX1_leader_0 23 rfl rfl)
theorem dX1_leader_24 : decode cX1_leader 24 = .ok (.istore_n 3, 1) := dk_62 (dk_at dksX1_leader_1 0 rfl rfl)
theorem dX1_leader_25 : decode cX1_leader 25 = .ok (.iload_n 3, 1) := dk_29 (dk_at dksX1_leader_1 1 rfl rfl)
theorem dX1_leader_26 : decode cX1_leader 26 = .ok (.aload_n 0, 1) := dk_42 (dk_at dksX1_leader_1 2 rfl rfl)
theorem dX1_leader_27 : decode cX1_leader 27 = .ok (.getfield 54, 3) := dk_180 0 54 (dk_at dksX1_leader_1 3 rfl rfl)
theorem dX1_leader_30 : decode cX1_leader 30 = .ok (.invokevirtual 128, 3) := dk_182 0 128 (dk_at dksX1_leader_1 6 rfl rfl)
theorem dX1_leader_33 : decode cX1_leader 33 = .ok (.if_icmp .ge 38, 3) := dk_162 0 38 (dk_at dksX1_leader_1 9 rfl rfl)
theorem dX1_leader_36 : decode cX1_leader 36 = .ok (.iload_n 2, 1) := dk_28 (dk_at dksX1_leader_1 12 rfl rfl)
theorem dX1_leader_37 : decode cX1_leader 37 = .ok (.bipush (-2), 2) := dk_16 254 (dk_at dksX1_leader_1 13 rfl rfl)
theorem dX1_leader_39 : decode cX1_leader 39 = .ok (.if_icmp .eq 24, 3) := dk_159 0 24 (dk_at dksX1_leader_1 15 rfl rfl)
theorem dX1_leader_42 : decode cX1_leader 42 = .ok (.aload_n 0, 1) := dk_42 (dk_at dksX1_leader_1 18 rfl rfl)
theorem dX1_leader_43 : decode cX1_leader 43 = .ok (.getfield 65, 3) := dk_180 0 65 (dk_at dksX1_leader_1 19 rfl rfl)
theorem dX1_leader_46 : decode cX1_leader 46 = .ok (.iload_n 3, 1) := dk_29 (dk_at dksX1_leader_1 22 rfl rfl)
theorem dX1_leader_47 : decode cX1_leader 47 = .ok (.iload_n 1, 1) := dk_27 (dk_at dksX1_leader_1 23 rfl rfl)
theorem dX1_leader_48 : decode cX1_leader 48 = .ok (.invokevirtual 351, 3) := dk_182 1 95 (dk_at dksX1_leader_2 0 rfl rfl)
theorem dX1_leader_51 : decode cX1_leader 51 = .ok (.aload_n 0, 1) := dk_42 (dk_at dksX1_leader_2 3 rfl rfl)
theorem dX1_leader_52 : decode cX1_leader 52 = .ok (.getfield 65, 3) := dk_180 0 65 (dk_at dksX1_leader_2 4 rfl rfl)
theorem dX1_leader_55 : decode cX1_leader 55 = .ok (.iload_n 2, 1) := dk_28 (dk_at dksX1_leader_2 7 rfl rfl)
theorem dX1_leader_56 : decode cX1_leader 56 = .ok (.iload_n 1, 1) := dk_27 (dk_at dksX1_leader_2 8 rfl rfl)
theorem dX1_leader_57 : decode cX1_leader 57 = .ok (.invokevirtual 351, 3) := dk_182 1 95 (dk_at dksX1_leader_2 9 rfl rfl)
theorem dX1_leader_60 : decode cX1_leader 60 = .ok (.if_icmp .le 5, 3) := dk_164 0 5 (dk_at dksX1_leader_2 12 rfl rfl)
theorem dX1_leader_63 : decode cX1_leader 63 = .ok (.iload_n 3, 1) := dk_29 (dk_at dksX1_leader_2 15 rfl rfl)
theorem dX1_leader_64 : decode cX1_leader 64 = .ok (.istore_n 2, 1) := dk_61 (dk_at dksX1_leader_2 16 rfl rfl)
theorem dX1_leader_65 : decode cX1_leader 65 = .ok (.iinc 3 1, 3) := dk_132 3 1 (dk_at dksX1_leader_2 17 rfl rfl)
theorem dX1_leader_68 : decode cX1_leader 68 = .ok (.goto (-43), 3) := dk_167 255 213 (dk_at dksX1_leader_2 20 rfl rfl)
theorem dX1_leader_71 : decode cX1_leader 71 = .ok (.iload_n 2, 1) := dk_28 (dk_at dksX1_leader_2 23 rfl rfl)
theorem dX1_leader_72 : decode cX1_leader 72 = .ok (.ireturn, 1) := dk_172 (dk_at dksX1_leader_3 0 rfl rfl)
abbrev cX1_rise : ByteArray := prog_1_method_49_code
def yX1_rise : MethodName := ⟨RX1, "rise", "(I)I"⟩
def dkwX1_rise_3 : List UInt8 := [28, 29, 184, 1, 180, 61, 132, 4, 1, 167, 255, 193, 28, 172]
abbrev dktX1_rise_3 : List UInt8 := dkwX1_rise_3 ++ []
def dkwX1_rise_2 : List UInt8 := [180, 0, 65, 180, 1, 58, 27, 50, 21, 4, 4, 100, 46, 164, 0, 9, 29, 4, 96, 167, 0, 4, 4, 62]
abbrev dktX1_rise_2 : List UInt8 := dkwX1_rise_2 ++ dktX1_rise_3
def dkwX1_rise_1 : List UInt8 := [180, 0, 142, 162, 0, 57, 21, 4, 158, 0, 38, 42, 180, 0, 65, 180, 1, 58, 27, 50, 21, 4, 46, 42]
abbrev dktX1_rise_1 : List UInt8 := dkwX1_rise_1 ++ dktX1_rise_2
def dkwX1_rise_0 : List UInt8 := [42, 27, 182, 0, 185, 154, 0, 5, 2, 172, 3, 61, 3, 62, 3, 54, 4, 21, 4, 42, 180, 0, 65]
abbrev dktX1_rise_0 : List UInt8 := dkwX1_rise_0 ++ dktX1_rise_1
theorem dksX1_rise_0 : cX1_rise.data.toList.drop 0 = dktX1_rise_0 := by decide +kernel
theorem dksX1_rise_1 : cX1_rise.data.toList.drop 23 = dktX1_rise_1 := dk_seg dksX1_rise_0 23 rfl rfl
theorem dksX1_rise_2 : cX1_rise.data.toList.drop 47 = dktX1_rise_2 := dk_seg dksX1_rise_1 24 rfl rfl
theorem dksX1_rise_3 : cX1_rise.data.toList.drop 71 = dktX1_rise_3 := dk_seg dksX1_rise_2 24 rfl rfl
theorem dX1_rise_0 : decode cX1_rise 0 = .ok (.aload_n 0, 1) := dk_42 (dk_at dksX1_rise_0 0 rfl rfl)
theorem dX1_rise_1 : decode cX1_rise 1 = .ok (.iload_n 1, 1) := dk_27 (dk_at dksX1_rise_0 1 rfl rfl)
theorem dX1_rise_2 : decode cX1_rise 2 = .ok (.invokevirtual 185, 3) := dk_182 0 185 (dk_at dksX1_rise_0 2 rfl rfl)
theorem dX1_rise_5 : decode cX1_rise 5 = .ok (.ifCond .ne 5, 3) := dk_154 0 5 (dk_at dksX1_rise_0 5 rfl rfl)
theorem dX1_rise_8 : decode cX1_rise 8 = .ok (.iconst (-1), 1) := dk_2 (dk_at dksX1_rise_0 8 rfl rfl)
theorem dX1_rise_9 : decode cX1_rise 9 = .ok (.ireturn, 1) := dk_172 (dk_at dksX1_rise_0 9 rfl rfl)
theorem dX1_rise_10 : decode cX1_rise 10 = .ok (.iconst 0, 1) := dk_3 (dk_at dksX1_rise_0 10 rfl rfl)
theorem dX1_rise_11 : decode cX1_rise 11 = .ok (.istore_n 2, 1) := dk_61 (dk_at dksX1_rise_0 11 rfl rfl)
theorem dX1_rise_12 : decode cX1_rise 12 = .ok (.iconst 0, 1) := dk_3 (dk_at dksX1_rise_0 12 rfl rfl)
theorem dX1_rise_13 : decode cX1_rise 13 = .ok (.istore_n 3, 1) := dk_62 (dk_at dksX1_rise_0 13 rfl rfl)
theorem dX1_rise_14 : decode cX1_rise 14 = .ok (.iconst 0, 1) := dk_3 (dk_at dksX1_rise_0 14 rfl rfl)
theorem dX1_rise_15 : decode cX1_rise 15 = .ok (.istore 4, 2) := dk_54 4 (dk_at dksX1_rise_0 15 rfl rfl)
theorem dX1_rise_17 : decode cX1_rise 17 = .ok (.iload 4, 2) := dk_21 4 (dk_at dksX1_rise_0 17 rfl rfl)
theorem dX1_rise_19 : decode cX1_rise 19 = .ok (.aload_n 0, 1) := dk_42 (dk_at dksX1_rise_0 19 rfl rfl)
theorem dX1_rise_20 : decode cX1_rise 20 = .ok (.getfield 65, 3) := dk_180 0 65 (dk_at dksX1_rise_0 20 rfl rfl)
theorem dX1_rise_23 : decode cX1_rise 23 = .ok (.getfield 142, 3) := dk_180 0 142 (dk_at dksX1_rise_1 0 rfl rfl)
theorem dX1_rise_26 : decode cX1_rise 26 = .ok (.if_icmp .ge 57, 3) := dk_162 0 57 (dk_at dksX1_rise_1 3 rfl rfl)
theorem dX1_rise_29 : decode cX1_rise 29 = .ok (.iload 4, 2) := dk_21 4 (dk_at dksX1_rise_1 6 rfl rfl)
theorem dX1_rise_31 : decode cX1_rise 31 = .ok (.ifCond .le 38, 3) := dk_158 0 38 (dk_at dksX1_rise_1 8 rfl rfl)
theorem dX1_rise_34 : decode cX1_rise 34 = .ok (.aload_n 0, 1) := dk_42 (dk_at dksX1_rise_1 11 rfl rfl)
theorem dX1_rise_35 : decode cX1_rise 35 = .ok (.getfield 65, 3) := dk_180 0 65 (dk_at dksX1_rise_1 12 rfl rfl)
theorem dX1_rise_38 : decode cX1_rise 38 = .ok (.getfield 314, 3) := dk_180 1 58 (dk_at dksX1_rise_1 15 rfl rfl)
theorem dX1_rise_41 : decode cX1_rise 41 = .ok (.iload_n 1, 1) := dk_27 (dk_at dksX1_rise_1 18 rfl rfl)
theorem dX1_rise_42 : decode cX1_rise 42 = .ok (.aaload, 1) := dk_50 (dk_at dksX1_rise_1 19 rfl rfl)
theorem dX1_rise_43 : decode cX1_rise 43 = .ok (.iload 4, 2) := dk_21 4 (dk_at dksX1_rise_1 20 rfl rfl)
theorem dX1_rise_45 : decode cX1_rise 45 = .ok (.iaload, 1) := dk_46 (dk_at dksX1_rise_1 22 rfl rfl)
theorem dX1_rise_46 : decode cX1_rise 46 = .ok (.aload_n 0, 1) := dk_42 (dk_at dksX1_rise_1 23 rfl rfl)
theorem dX1_rise_47 : decode cX1_rise 47 = .ok (.getfield 65, 3) := dk_180 0 65 (dk_at dksX1_rise_2 0 rfl rfl)
theorem dX1_rise_50 : decode cX1_rise 50 = .ok (.getfield 314, 3) := dk_180 1 58 (dk_at dksX1_rise_2 3 rfl rfl)
theorem dX1_rise_53 : decode cX1_rise 53 = .ok (.iload_n 1, 1) := dk_27 (dk_at dksX1_rise_2 6 rfl rfl)
theorem dX1_rise_54 : decode cX1_rise 54 = .ok (.aaload, 1) := dk_50 (dk_at dksX1_rise_2 7 rfl rfl)
theorem dX1_rise_55 : decode cX1_rise 55 = .ok (.iload 4, 2) := dk_21 4 (dk_at dksX1_rise_2 8 rfl rfl)
theorem dX1_rise_57 : decode cX1_rise 57 = .ok (.iconst 1, 1) := dk_4 (dk_at dksX1_rise_2 10 rfl rfl)
theorem dX1_rise_58 : decode cX1_rise 58 = .ok (.isub, 1) := dk_100 (dk_at dksX1_rise_2 11 rfl rfl)
theorem dX1_rise_59 : decode cX1_rise 59 = .ok (.iaload, 1) := dk_46 (dk_at dksX1_rise_2 12 rfl rfl)
theorem dX1_rise_60 : decode cX1_rise 60 = .ok (.if_icmp .le 9, 3) := dk_164 0 9 (dk_at dksX1_rise_2 13 rfl rfl)
theorem dX1_rise_63 : decode cX1_rise 63 = .ok (.iload_n 3, 1) := dk_29 (dk_at dksX1_rise_2 16 rfl rfl)
theorem dX1_rise_64 : decode cX1_rise 64 = .ok (.iconst 1, 1) := dk_4 (dk_at dksX1_rise_2 17 rfl rfl)
theorem dX1_rise_65 : decode cX1_rise 65 = .ok (.iadd, 1) := dk_96 (dk_at dksX1_rise_2 18 rfl rfl)
theorem dX1_rise_66 : decode cX1_rise 66 = .ok (.goto 4, 3) := dk_167 0 4 (dk_at dksX1_rise_2 19 rfl rfl)
theorem dX1_rise_69 : decode cX1_rise 69 = .ok (.iconst 1, 1) := dk_4 (dk_at dksX1_rise_2 22 rfl rfl)
theorem dX1_rise_70 : decode cX1_rise 70 = .ok (.istore_n 3, 1) := dk_62 (dk_at dksX1_rise_2 23 rfl rfl)
theorem dX1_rise_71 : decode cX1_rise 71 = .ok (.iload_n 2, 1) := dk_28 (dk_at dksX1_rise_3 0 rfl rfl)
theorem dX1_rise_72 : decode cX1_rise 72 = .ok (.iload_n 3, 1) := dk_29 (dk_at dksX1_rise_3 1 rfl rfl)
theorem dX1_rise_73 : decode cX1_rise 73 = .ok (.invokestatic 436, 3) := dk_184 1 180 (dk_at dksX1_rise_3 2 rfl rfl)
theorem dX1_rise_76 : decode cX1_rise 76 = .ok (.istore_n 2, 1) := dk_61 (dk_at dksX1_rise_3 5 rfl rfl)
theorem dX1_rise_77 : decode cX1_rise 77 = .ok (.iinc 4 1, 3) := dk_132 4 1 (dk_at dksX1_rise_3 6 rfl rfl)
theorem dX1_rise_80 : decode cX1_rise 80 = .ok (.goto (-63), 3) := dk_167 255 193 (dk_at dksX1_rise_3 9 rfl rfl)
theorem dX1_rise_83 : decode cX1_rise 83 = .ok (.iload_n 2, 1) := dk_28 (dk_at dksX1_rise_3 12 rfl rfl)
theorem dX1_rise_84 : decode cX1_rise 84 = .ok (.ireturn, 1) := dk_172 (dk_at dksX1_rise_3 13 rfl rfl)
abbrev cX1_need : ByteArray := prog_1_method_51_code
def yX1_need : MethodName := ⟨RX1, "need", "(II)I"⟩
def dkwX1_need_6 : List UInt8 := [167, 255, 212, 21, 5, 172]
abbrev dktX1_need_6 : List UInt8 := dkwX1_need_6 ++ []
def dkwX1_need_5 : List UInt8 := [45, 27, 21, 6, 28, 182, 1, 183, 153, 0, 10, 21, 6, 54, 5, 167, 0, 7, 21, 6, 54, 4]
abbrev dktX1_need_5 : List UInt8 := dkwX1_need_5 ++ dktX1_need_6
def dkwX1_need_4 : List UInt8 := [54, 5, 21, 5, 21, 4, 100, 4, 164, 0, 41, 21, 4, 21, 5, 21, 4, 100, 5, 108, 96, 54, 6, 42]
abbrev dktX1_need_4 : List UInt8 := dkwX1_need_4 ++ dktX1_need_5
def dkwX1_need_3 : List UInt8 := [172, 42, 45, 27, 19, 1, 187, 28, 182, 1, 183, 154, 0, 6, 16, 254, 172, 3, 54, 4, 19, 1, 187]
abbrev dktX1_need_3 : List UInt8 := dkwX1_need_3 ++ dktX1_need_4
def dkwX1_need_2 : List UInt8 := [182, 0, 192, 180, 0, 196, 153, 0, 6, 16, 254, 172, 42, 45, 27, 3, 28, 182, 1, 183, 153, 0, 5, 3]
abbrev dktX1_need_2 : List UInt8 := dkwX1_need_2 ++ dktX1_need_3
def dkwX1_need_1 : List UInt8 := [154, 0, 5, 2, 172, 42, 180, 0, 65, 27, 42, 182, 0, 158, 182, 1, 68, 78, 42, 180, 0, 54, 27]
abbrev dktX1_need_1 : List UInt8 := dkwX1_need_1 ++ dktX1_need_2
def dkwX1_need_0 : List UInt8 := [42, 27, 182, 0, 185, 153, 0, 20, 28, 133, 9, 42, 180, 0, 54, 180, 1, 72, 133, 184, 0, 96]
abbrev dktX1_need_0 : List UInt8 := dkwX1_need_0 ++ dktX1_need_1
theorem dksX1_need_0 : cX1_need.data.toList.drop 0 = dktX1_need_0 := by decide +kernel
theorem dksX1_need_1 : cX1_need.data.toList.drop 22 = dktX1_need_1 := dk_seg dksX1_need_0 22 rfl rfl
theorem dksX1_need_2 : cX1_need.data.toList.drop 45 = dktX1_need_2 := dk_seg dksX1_need_1 23 rfl rfl
theorem dksX1_need_3 : cX1_need.data.toList.drop 69 = dktX1_need_3 := dk_seg dksX1_need_2 24 rfl rfl
theorem dksX1_need_4 : cX1_need.data.toList.drop 92 = dktX1_need_4 := dk_seg dksX1_need_3 23 rfl rfl
theorem dksX1_need_5 : cX1_need.data.toList.drop 116 = dktX1_need_5 := dk_seg dksX1_need_4 24 rfl rfl
theorem dksX1_need_6 : cX1_need.data.toList.drop 138 = dktX1_need_6 := dk_seg dksX1_need_5 22 rfl rfl
theorem dX1_need_0 : decode cX1_need 0 = .ok (.aload_n 0, 1) := dk_42 (dk_at dksX1_need_0 0 rfl rfl)
theorem dX1_need_1 : decode cX1_need 1 = .ok (.iload_n 1, 1) := dk_27 (dk_at dksX1_need_0 1 rfl rfl)
theorem dX1_need_2 : decode cX1_need 2 = .ok (.invokevirtual 185, 3) := dk_182 0 185 (dk_at dksX1_need_0 2 rfl rfl)
theorem dX1_need_5 : decode cX1_need 5 = .ok (.ifCond .eq 20, 3) := dk_153 0 20 (dk_at dksX1_need_0 5 rfl rfl)
theorem dX1_need_8 : decode cX1_need 8 = .ok (.iload_n 2, 1) := dk_28 (dk_at dksX1_need_0 8 rfl rfl)
theorem dX1_need_9 : decode cX1_need 9 = .ok (.i2l, 1) := dk_133 (dk_at dksX1_need_0 9 rfl rfl)
theorem dX1_need_10 : decode cX1_need 10 = .ok (.lconst 0, 1) := dk_9 (dk_at dksX1_need_0 10 rfl rfl)
theorem dX1_need_11 : decode cX1_need 11 = .ok (.aload_n 0, 1) := dk_42 (dk_at dksX1_need_0 11 rfl rfl)
theorem dX1_need_12 : decode cX1_need 12 = .ok (.getfield 54, 3) := dk_180 0 54 (dk_at dksX1_need_0 12 rfl rfl)
theorem dX1_need_15 : decode cX1_need 15 = .ok (.getfield 328, 3) := dk_180 1 72 (dk_at dksX1_need_0 15 rfl rfl)
theorem dX1_need_18 : decode cX1_need 18 = .ok (.i2l, 1) := dk_133 (dk_at dksX1_need_0 18 rfl rfl)
theorem dX1_need_19 : decode cX1_need 19 = .ok (.invokestatic 96, 3) := dk_184 0 96 (dk_at dksX1_need_0 19 rfl rfl)
theorem dX1_need_22 : decode cX1_need 22 = .ok (.ifCond .ne 5, 3) := dk_154 0 5 (dk_at dksX1_need_1 0 rfl rfl)
theorem dX1_need_25 : decode cX1_need 25 = .ok (.iconst (-1), 1) := dk_2 (dk_at dksX1_need_1 3 rfl rfl)
theorem dX1_need_26 : decode cX1_need 26 = .ok (.ireturn, 1) := dk_172 (dk_at dksX1_need_1 4 rfl rfl)
theorem dX1_need_27 : decode cX1_need 27 = .ok (.aload_n 0, 1) := dk_42 (dk_at dksX1_need_1 5 rfl rfl)
theorem dX1_need_28 : decode cX1_need 28 = .ok (.getfield 65, 3) := dk_180 0 65 (dk_at dksX1_need_1 6 rfl rfl)
theorem dX1_need_31 : decode cX1_need 31 = .ok (.iload_n 1, 1) := dk_27 (dk_at dksX1_need_1 9 rfl rfl)
theorem dX1_need_32 : decode cX1_need 32 = .ok (.aload_n 0, 1) := dk_42 (dk_at dksX1_need_1 10 rfl rfl)
theorem dX1_need_33 : decode cX1_need 33 = .ok (.invokevirtual 158, 3) := dk_182 0 158 (dk_at dksX1_need_1 11 rfl rfl)
theorem dX1_need_36 : decode cX1_need 36 = .ok (.invokevirtual 324, 3) := dk_182 1 68 (dk_at dksX1_need_1 14 rfl rfl)
theorem dX1_need_39 : decode cX1_need 39 = .ok (.astore_n 3, 1) := dk_78 (dk_at dksX1_need_1 17 rfl rfl)
theorem dX1_need_40 : decode cX1_need 40 = .ok (.aload_n 0, 1) := dk_42 (dk_at dksX1_need_1 18 rfl rfl)
theorem dX1_need_41 : decode cX1_need 41 = .ok (.getfield 54, 3) := dk_180 0 54 (dk_at dksX1_need_1 19 rfl rfl)
theorem dX1_need_44 : decode cX1_need 44 = .ok (.iload_n 1, 1) := dk_27 (dk_at dksX1_need_1 22 rfl rfl)
theorem dX1_need_45 : decode cX1_need 45 = .ok (.invokevirtual 192, 3) := dk_182 0 192 (dk_at dksX1_need_2 0 rfl rfl)
theorem dX1_need_48 : decode cX1_need 48 = .ok (.getfield 196, 3) := dk_180 0 196 (dk_at dksX1_need_2 3 rfl rfl)
theorem dX1_need_51 : decode cX1_need 51 = .ok (.ifCond .eq 6, 3) := dk_153 0 6 (dk_at dksX1_need_2 6 rfl rfl)
theorem dX1_need_54 : decode cX1_need 54 = .ok (.bipush (-2), 2) := dk_16 254 (dk_at dksX1_need_2 9 rfl rfl)
theorem dX1_need_56 : decode cX1_need 56 = .ok (.ireturn, 1) := dk_172 (dk_at dksX1_need_2 11 rfl rfl)
theorem dX1_need_57 : decode cX1_need 57 = .ok (.aload_n 0, 1) := dk_42 (dk_at dksX1_need_2 12 rfl rfl)
theorem dX1_need_58 : decode cX1_need 58 = .ok (.aload_n 3, 1) := dk_45 (dk_at dksX1_need_2 13 rfl rfl)
theorem dX1_need_59 : decode cX1_need 59 = .ok (.iload_n 1, 1) := dk_27 (dk_at dksX1_need_2 14 rfl rfl)
theorem dX1_need_60 : decode cX1_need 60 = .ok (.iconst 0, 1) := dk_3 (dk_at dksX1_need_2 15 rfl rfl)
theorem dX1_need_61 : decode cX1_need 61 = .ok (.iload_n 2, 1) := dk_28 (dk_at dksX1_need_2 16 rfl rfl)
theorem dX1_need_62 : decode cX1_need 62 = .ok (.invokevirtual 439, 3) := dk_182 1 183 (dk_at dksX1_need_2 17 rfl rfl)
theorem dX1_need_65 : decode cX1_need 65 = .ok (.ifCond .eq 5, 3) := dk_153 0 5 (dk_at dksX1_need_2 20 rfl rfl)
theorem dX1_need_68 : decode cX1_need 68 = .ok (.iconst 0, 1) := dk_3 (dk_at dksX1_need_2 23 rfl rfl)
theorem dX1_need_69 : decode cX1_need 69 = .ok (.ireturn, 1) := dk_172 (dk_at dksX1_need_3 0 rfl rfl)
theorem dX1_need_70 : decode cX1_need 70 = .ok (.aload_n 0, 1) := dk_42 (dk_at dksX1_need_3 1 rfl rfl)
theorem dX1_need_71 : decode cX1_need 71 = .ok (.aload_n 3, 1) := dk_45 (dk_at dksX1_need_3 2 rfl rfl)
theorem dX1_need_72 : decode cX1_need 72 = .ok (.iload_n 1, 1) := dk_27 (dk_at dksX1_need_3 3 rfl rfl)
theorem dX1_need_73 : decode cX1_need 73 = .ok (.ldc_w 443, 3) := dk_19 1 187 (dk_at dksX1_need_3 4 rfl rfl)
theorem dX1_need_76 : decode cX1_need 76 = .ok (.iload_n 2, 1) := dk_28 (dk_at dksX1_need_3 7 rfl rfl)
theorem dX1_need_77 : decode cX1_need 77 = .ok (.invokevirtual 439, 3) := dk_182 1 183 (dk_at dksX1_need_3 8 rfl rfl)
theorem dX1_need_80 : decode cX1_need 80 = .ok (.ifCond .ne 6, 3) := dk_154 0 6 (dk_at dksX1_need_3 11 rfl rfl)
theorem dX1_need_83 : decode cX1_need 83 = .ok (.bipush (-2), 2) := dk_16 254 (dk_at dksX1_need_3 14 rfl rfl)
theorem dX1_need_85 : decode cX1_need 85 = .ok (.ireturn, 1) := dk_172 (dk_at dksX1_need_3 16 rfl rfl)
theorem dX1_need_86 : decode cX1_need 86 = .ok (.iconst 0, 1) := dk_3 (dk_at dksX1_need_3 17 rfl rfl)
theorem dX1_need_87 : decode cX1_need 87 = .ok (.istore 4, 2) := dk_54 4 (dk_at dksX1_need_3 18 rfl rfl)
theorem dX1_need_89 : decode cX1_need 89 = .ok (.ldc_w 443, 3) := dk_19 1 187 (dk_at dksX1_need_3 20 rfl rfl)
theorem dX1_need_92 : decode cX1_need 92 = .ok (.istore 5, 2) := dk_54 5 (dk_at dksX1_need_4 0 rfl rfl)
theorem dX1_need_94 : decode cX1_need 94 = .ok (.iload 5, 2) := dk_21 5 (dk_at dksX1_need_4 2 rfl rfl)
theorem dX1_need_96 : decode cX1_need 96 = .ok (.iload 4, 2) := dk_21 4 (dk_at dksX1_need_4 4 rfl rfl)
theorem dX1_need_98 : decode cX1_need 98 = .ok (.isub, 1) := dk_100 (dk_at dksX1_need_4 6 rfl rfl)
theorem dX1_need_99 : decode cX1_need 99 = .ok (.iconst 1, 1) := dk_4 (dk_at dksX1_need_4 7 rfl rfl)
theorem dX1_need_100 : decode cX1_need 100 = .ok (.if_icmp .le 41, 3) := dk_164 0 41 (dk_at dksX1_need_4 8 rfl rfl)
theorem dX1_need_103 : decode cX1_need 103 = .ok (.iload 4, 2) := dk_21 4 (dk_at dksX1_need_4 11 rfl rfl)
theorem dX1_need_105 : decode cX1_need 105 = .ok (.iload 5, 2) := dk_21 5 (dk_at dksX1_need_4 13 rfl rfl)
theorem dX1_need_107 : decode cX1_need 107 = .ok (.iload 4, 2) := dk_21 4 (dk_at dksX1_need_4 15 rfl rfl)
theorem dX1_need_109 : decode cX1_need 109 = .ok (.isub, 1) := dk_100 (dk_at dksX1_need_4 17 rfl rfl)
theorem dX1_need_110 : decode cX1_need 110 = .ok (.iconst 2, 1) := dk_5 (dk_at dksX1_need_4 18 rfl rfl)
theorem dX1_need_111 : decode cX1_need 111 = .ok (.idiv, 1) := dk_108 (dk_at dksX1_need_4 19 rfl rfl)
theorem dX1_need_112 : decode cX1_need 112 = .ok (.iadd, 1) := dk_96 (dk_at dksX1_need_4 20 rfl rfl)
theorem dX1_need_113 : decode cX1_need 113 = .ok (.istore 6, 2) := dk_54 6 (dk_at dksX1_need_4 21 rfl rfl)
theorem dX1_need_115 : decode cX1_need 115 = .ok (.aload_n 0, 1) := dk_42 (dk_at dksX1_need_4 23 rfl rfl)
theorem dX1_need_116 : decode cX1_need 116 = .ok (.aload_n 3, 1) := dk_45 (dk_at dksX1_need_5 0 rfl rfl)
theorem dX1_need_117 : decode cX1_need 117 = .ok (.iload_n 1, 1) := dk_27 (dk_at dksX1_need_5 1 rfl rfl)
theorem dX1_need_118 : decode cX1_need 118 = .ok (.iload 6, 2) := dk_21 6 (dk_at dksX1_need_5 2 rfl rfl)
theorem dX1_need_120 : decode cX1_need 120 = .ok (.iload_n 2, 1) := dk_28 (dk_at dksX1_need_5 4 rfl rfl)
theorem dX1_need_121 : decode cX1_need 121 = .ok (.invokevirtual 439, 3) := dk_182 1 183 (dk_at dksX1_need_5 5 rfl rfl)
theorem dX1_need_124 : decode cX1_need 124 = .ok (.ifCond .eq 10, 3) := dk_153 0 10 (dk_at dksX1_need_5 8 rfl rfl)
theorem dX1_need_127 : decode cX1_need 127 = .ok (.iload 6, 2) := dk_21 6 (dk_at dksX1_need_5 11 rfl rfl)
theorem dX1_need_129 : decode cX1_need 129 = .ok (.istore 5, 2) := dk_54 5 (dk_at dksX1_need_5 13 rfl rfl)
theorem dX1_need_131 : decode cX1_need 131 = .ok (.goto 7, 3) := dk_167 0 7 (dk_at dksX1_need_5 15 rfl rfl)
theorem dX1_need_134 : decode cX1_need 134 = .ok (.iload 6, 2) := dk_21 6 (dk_at dksX1_need_5 18 rfl rfl)
theorem dX1_need_136 : decode cX1_need 136 = .ok (.istore 4, 2) := dk_54 4 (dk_at dksX1_need_5 20 rfl rfl)
theorem dX1_need_138 : decode cX1_need 138 = .ok (.goto (-44), 3) := dk_167 255 212 (dk_at dksX1_need_6 0 rfl rfl)
theorem dX1_need_141 : decode cX1_need 141 = .ok (.iload 5, 2) := dk_21 5 (dk_at dksX1_need_6 3 rfl rfl)
theorem dX1_need_143 : decode cX1_need 143 = .ok (.ireturn, 1) := dk_172 (dk_at dksX1_need_6 5 rfl rfl)
abbrev cX1_isEnough : ByteArray := prog_1_method_50_code
def yX1_isEnough : MethodName := ⟨RX1, "isEnough", "(LExemptDesk$Sums;III)Z"⟩
def dkwX1_isEnough_1 : List UInt8 := [161, 0, 7, 4, 167, 0, 4, 3, 54, 5, 43, 180, 1, 11, 3, 92, 47, 29, 133, 101, 80, 21, 5, 172]
abbrev dktX1_isEnough_1 : List UInt8 := dkwX1_isEnough_1 ++ []
def dkwX1_isEnough_0 : List UInt8 := [43, 180, 1, 11, 3, 92, 47, 29, 133, 97, 80, 42, 180, 0, 65, 28, 43, 182, 1, 168, 21, 4]
abbrev dktX1_isEnough_0 : List UInt8 := dkwX1_isEnough_0 ++ dktX1_isEnough_1
theorem dksX1_isEnough_0 : cX1_isEnough.data.toList.drop 0 = dktX1_isEnough_0 := by decide +kernel
theorem dksX1_isEnough_1 : cX1_isEnough.data.toList.drop 22 = dktX1_isEnough_1 := dk_seg dksX1_isEnough_0 22 rfl rfl
theorem dX1_isEnough_0 : decode cX1_isEnough 0 = .ok (.aload_n 1, 1) := dk_43 (dk_at dksX1_isEnough_0 0 rfl rfl)
theorem dX1_isEnough_1 : decode cX1_isEnough 1 = .ok (.getfield 267, 3) := dk_180 1 11 (dk_at dksX1_isEnough_0 1 rfl rfl)
theorem dX1_isEnough_4 : decode cX1_isEnough 4 = .ok (.iconst 0, 1) := dk_3 (dk_at dksX1_isEnough_0 4 rfl rfl)
theorem dX1_isEnough_5 : decode cX1_isEnough 5 = .ok (.dup2, 1) := dk_92 (dk_at dksX1_isEnough_0 5 rfl rfl)
theorem dX1_isEnough_6 : decode cX1_isEnough 6 = .ok (.laload, 1) := dk_47 (dk_at dksX1_isEnough_0 6 rfl rfl)
theorem dX1_isEnough_7 : decode cX1_isEnough 7 = .ok (.iload_n 3, 1) := dk_29 (dk_at dksX1_isEnough_0 7 rfl rfl)
theorem dX1_isEnough_8 : decode cX1_isEnough 8 = .ok (.i2l, 1) := dk_133 (dk_at dksX1_isEnough_0 8 rfl rfl)
theorem dX1_isEnough_9 : decode cX1_isEnough 9 = .ok (.ladd, 1) := dk_97 (dk_at dksX1_isEnough_0 9 rfl rfl)
theorem dX1_isEnough_10 : decode cX1_isEnough 10 = .ok (.lastore, 1) := dk_80 (dk_at dksX1_isEnough_0 10 rfl rfl)
theorem dX1_isEnough_11 : decode cX1_isEnough 11 = .ok (.aload_n 0, 1) := dk_42 (dk_at dksX1_isEnough_0 11 rfl rfl)
theorem dX1_isEnough_12 : decode cX1_isEnough 12 = .ok (.getfield 65, 3) := dk_180 0 65 (dk_at dksX1_isEnough_0 12 rfl rfl)
theorem dX1_isEnough_15 : decode cX1_isEnough 15 = .ok (.iload_n 2, 1) := dk_28 (dk_at dksX1_isEnough_0 15 rfl rfl)
theorem dX1_isEnough_16 : decode cX1_isEnough 16 = .ok (.aload_n 1, 1) := dk_43 (dk_at dksX1_isEnough_0 16 rfl rfl)
theorem dX1_isEnough_17 : decode cX1_isEnough 17 = .ok (.invokevirtual 424, 3) := dk_182 1 168 (dk_at dksX1_isEnough_0 17 rfl rfl)
theorem dX1_isEnough_20 : decode cX1_isEnough 20 = .ok (.iload 4, 2) := dk_21 4 (dk_at dksX1_isEnough_0 20 rfl rfl)
theorem dX1_isEnough_22 : decode cX1_isEnough 22 = .ok (.if_icmp .lt 7, 3) := dk_161 0 7 (dk_at dksX1_isEnough_1 0 rfl rfl)
theorem dX1_isEnough_25 : decode cX1_isEnough 25 = .ok (.iconst 1, 1) := dk_4 (dk_at dksX1_isEnough_1 3 rfl rfl)
theorem dX1_isEnough_26 : decode cX1_isEnough 26 = .ok (.goto 4, 3) := dk_167 0 4 (dk_at dksX1_isEnough_1 4 rfl rfl)
theorem dX1_isEnough_29 : decode cX1_isEnough 29 = .ok (.iconst 0, 1) := dk_3 (dk_at dksX1_isEnough_1 7 rfl rfl)
theorem dX1_isEnough_30 : decode cX1_isEnough 30 = .ok (.istore 5, 2) := dk_54 5 (dk_at dksX1_isEnough_1 8 rfl rfl)
theorem dX1_isEnough_32 : decode cX1_isEnough 32 = .ok (.aload_n 1, 1) := dk_43 (dk_at dksX1_isEnough_1 10 rfl rfl)
theorem dX1_isEnough_33 : decode cX1_isEnough 33 = .ok (.getfield 267, 3) := dk_180 1 11 (dk_at dksX1_isEnough_1 11 rfl rfl)
theorem dX1_isEnough_36 : decode cX1_isEnough 36 = .ok (.iconst 0, 1) := dk_3 (dk_at dksX1_isEnough_1 14 rfl rfl)
theorem dX1_isEnough_37 : decode cX1_isEnough 37 = .ok (.dup2, 1) := dk_92 (dk_at dksX1_isEnough_1 15 rfl rfl)
theorem dX1_isEnough_38 : decode cX1_isEnough 38 = .ok (.laload, 1) := dk_47 (dk_at dksX1_isEnough_1 16 rfl rfl)
theorem dX1_isEnough_39 : decode cX1_isEnough 39 = .ok (.iload_n 3, 1) := dk_29 (dk_at dksX1_isEnough_1 17 rfl rfl)
theorem dX1_isEnough_40 : decode cX1_isEnough 40 = .ok (.i2l, 1) := dk_133 (dk_at dksX1_isEnough_1 18 rfl rfl)
theorem dX1_isEnough_41 : decode cX1_isEnough 41 = .ok (.lsub, 1) := dk_101 (dk_at dksX1_isEnough_1 19 rfl rfl)
theorem dX1_isEnough_42 : decode cX1_isEnough 42 = .ok (.lastore, 1) := dk_80 (dk_at dksX1_isEnough_1 20 rfl rfl)
theorem dX1_isEnough_43 : decode cX1_isEnough 43 = .ok (.iload 5, 2) := dk_21 5 (dk_at dksX1_isEnough_1 21 rfl rfl)
theorem dX1_isEnough_45 : decode cX1_isEnough 45 = .ok (.ireturn, 1) := dk_172 (dk_at dksX1_isEnough_1 23 rfl rfl)
abbrev cX1_room : ByteArray := prog_1_method_52_code
def yX1_room : MethodName := ⟨RX1, "room", "(II)I"⟩
def dkwX1_room_6 : List UInt8 := [4, 100, 172]
abbrev dktX1_room_6 : List UInt8 := dkwX1_room_6 ++ []
def dkwX1_room_5 : List UInt8 := [180, 1, 83, 182, 1, 86, 54, 5, 167, 255, 188, 21, 5, 153, 0, 9, 17, 39, 15, 167, 0, 7, 21, 4]
abbrev dktX1_room_5 : List UInt8 := dkwX1_room_5 ++ dktX1_room_6
def dkwX1_room_4 : List UInt8 := [182, 1, 168, 42, 180, 0, 54, 180, 1, 72, 42, 180, 0, 65, 182, 1, 75, 182, 1, 79, 42, 180, 0, 54]
abbrev dktX1_room_4 : List UInt8 := dkwX1_room_4 ++ dktX1_room_5
def dkwX1_room_3 : List UInt8 := [132, 4, 1, 45, 180, 1, 11, 5, 28, 96, 92, 47, 10, 97, 80, 45, 45, 42, 180, 0, 65, 27, 45]
abbrev dktX1_room_3 : List UInt8 := dkwX1_room_3 ++ dktX1_room_4
def dkwX1_room_2 : List UInt8 := [182, 1, 68, 78, 3, 54, 4, 4, 54, 5, 21, 5, 153, 0, 69, 21, 4, 17, 39, 15, 162, 0, 61]
abbrev dktX1_room_2 : List UInt8 := dkwX1_room_2 ++ dktX1_room_3
def dkwX1_room_1 : List UInt8 := [42, 182, 0, 158, 182, 1, 98, 154, 0, 6, 16, 254, 172, 42, 180, 0, 65, 27, 42, 182, 0, 158]
abbrev dktX1_room_1 : List UInt8 := dkwX1_room_1 ++ dktX1_room_2
def dkwX1_room_0 : List UInt8 := [42, 27, 182, 0, 185, 153, 0, 15, 28, 133, 9, 20, 1, 14, 184, 0, 96, 154, 0, 5, 2, 172, 42, 27]
abbrev dktX1_room_0 : List UInt8 := dkwX1_room_0 ++ dktX1_room_1
theorem dksX1_room_0 : cX1_room.data.toList.drop 0 = dktX1_room_0 := by decide +kernel
theorem dksX1_room_1 : cX1_room.data.toList.drop 24 = dktX1_room_1 := dk_seg dksX1_room_0 24 rfl rfl
theorem dksX1_room_2 : cX1_room.data.toList.drop 46 = dktX1_room_2 := dk_seg dksX1_room_1 22 rfl rfl
theorem dksX1_room_3 : cX1_room.data.toList.drop 69 = dktX1_room_3 := dk_seg dksX1_room_2 23 rfl rfl
theorem dksX1_room_4 : cX1_room.data.toList.drop 92 = dktX1_room_4 := dk_seg dksX1_room_3 23 rfl rfl
theorem dksX1_room_5 : cX1_room.data.toList.drop 116 = dktX1_room_5 := dk_seg dksX1_room_4 24 rfl rfl
theorem dksX1_room_6 : cX1_room.data.toList.drop 140 = dktX1_room_6 := dk_seg dksX1_room_5 24 rfl rfl
theorem dX1_room_0 : decode cX1_room 0 = .ok (.aload_n 0, 1) := dk_42 (dk_at dksX1_room_0 0 rfl rfl)
theorem dX1_room_1 : decode cX1_room 1 = .ok (.iload_n 1, 1) := dk_27 (dk_at dksX1_room_0 1 rfl rfl)
theorem dX1_room_2 : decode cX1_room 2 = .ok (.invokevirtual 185, 3) := dk_182 0 185 (dk_at dksX1_room_0 2 rfl rfl)
theorem dX1_room_5 : decode cX1_room 5 = .ok (.ifCond .eq 15, 3) := dk_153 0 15 (dk_at dksX1_room_0 5 rfl rfl)
theorem dX1_room_8 : decode cX1_room 8 = .ok (.iload_n 2, 1) := dk_28 (dk_at dksX1_room_0 8 rfl rfl)
theorem dX1_room_9 : decode cX1_room 9 = .ok (.i2l, 1) := dk_133 (dk_at dksX1_room_0 9 rfl rfl)
theorem dX1_room_10 : decode cX1_room 10 = .ok (.lconst 0, 1) := dk_9 (dk_at dksX1_room_0 10 rfl rfl)
theorem dX1_room_11 : decode cX1_room 11 = .ok (.ldc2_w 270, 3) := dk_20 1 14 (dk_at dksX1_room_0 11 rfl rfl)
theorem dX1_room_14 : decode cX1_room 14 = .ok (.invokestatic 96, 3) := dk_184 0 96 (dk_at dksX1_room_0 14 rfl rfl)
theorem dX1_room_17 : decode cX1_room 17 = .ok (.ifCond .ne 5, 3) := dk_154 0 5 (dk_at dksX1_room_0 17 rfl rfl)
theorem dX1_room_20 : decode cX1_room 20 = .ok (.iconst (-1), 1) := dk_2 (dk_at dksX1_room_0 20 rfl rfl)
theorem dX1_room_21 : decode cX1_room 21 = .ok (.ireturn, 1) := dk_172 (dk_at dksX1_room_0 21 rfl rfl)
theorem dX1_room_22 : decode cX1_room 22 = .ok (.aload_n 0, 1) := dk_42 (dk_at dksX1_room_0 22 rfl rfl)
theorem dX1_room_23 : decode cX1_room 23 = .ok (.iload_n 1, 1) := dk_27 (dk_at dksX1_room_0 23 rfl rfl)
theorem dX1_room_24 : decode cX1_room 24 = .ok (.aload_n 0, 1) := dk_42 (dk_at dksX1_room_1 0 rfl rfl)
theorem dX1_room_25 : decode cX1_room 25 = .ok (.invokevirtual 158, 3) := dk_182 0 158 (dk_at dksX1_room_1 1 rfl rfl)
theorem dX1_room_28 : decode cX1_room 28 = .ok (.invokevirtual 354, 3) := dk_182 1 98 (dk_at dksX1_room_1 4 rfl rfl)
theorem dX1_room_31 : decode cX1_room 31 = .ok (.ifCond .ne 6, 3) := dk_154 0 6 (dk_at dksX1_room_1 7 rfl rfl)
theorem dX1_room_34 : decode cX1_room 34 = .ok (.bipush (-2), 2) := dk_16 254 (dk_at dksX1_room_1 10 rfl rfl)
theorem dX1_room_36 : decode cX1_room 36 = .ok (.ireturn, 1) := dk_172 (dk_at dksX1_room_1 12 rfl rfl)
theorem dX1_room_37 : decode cX1_room 37 = .ok (.aload_n 0, 1) := dk_42 (dk_at dksX1_room_1 13 rfl rfl)
theorem dX1_room_38 : decode cX1_room 38 = .ok (.getfield 65, 3) := dk_180 0 65 (dk_at dksX1_room_1 14 rfl rfl)
theorem dX1_room_41 : decode cX1_room 41 = .ok (.iload_n 1, 1) := dk_27 (dk_at dksX1_room_1 17 rfl rfl)
theorem dX1_room_42 : decode cX1_room 42 = .ok (.aload_n 0, 1) := dk_42 (dk_at dksX1_room_1 18 rfl rfl)
theorem dX1_room_43 : decode cX1_room 43 = .ok (.invokevirtual 158, 3) := dk_182 0 158 (dk_at dksX1_room_1 19 rfl rfl)
theorem dX1_room_46 : decode cX1_room 46 = .ok (.invokevirtual 324, 3) := dk_182 1 68 (dk_at dksX1_room_2 0 rfl rfl)
theorem dX1_room_49 : decode cX1_room 49 = .ok (.astore_n 3, 1) := dk_78 (dk_at dksX1_room_2 3 rfl rfl)
theorem dX1_room_50 : decode cX1_room 50 = .ok (.iconst 0, 1) := dk_3 (dk_at dksX1_room_2 4 rfl rfl)
theorem dX1_room_51 : decode cX1_room 51 = .ok (.istore 4, 2) := dk_54 4 (dk_at dksX1_room_2 5 rfl rfl)
theorem dX1_room_53 : decode cX1_room 53 = .ok (.iconst 1, 1) := dk_4 (dk_at dksX1_room_2 7 rfl rfl)
theorem dX1_room_54 : decode cX1_room 54 = .ok (.istore 5, 2) := dk_54 5 (dk_at dksX1_room_2 8 rfl rfl)
theorem dX1_room_56 : decode cX1_room 56 = .ok (.iload 5, 2) := dk_21 5 (dk_at dksX1_room_2 10 rfl rfl)
theorem dX1_room_58 : decode cX1_room 58 = .ok (.ifCond .eq 69, 3) := dk_153 0 69 (dk_at dksX1_room_2 12 rfl rfl)
theorem dX1_room_61 : decode cX1_room 61 = .ok (.iload 4, 2) := dk_21 4 (dk_at dksX1_room_2 15 rfl rfl)
theorem dX1_room_63 : decode cX1_room 63 = .ok (.sipush 9999, 3) := dk_17 39 15 (dk_at dksX1_room_2 17 rfl rfl)
theorem dX1_room_66 : decode cX1_room 66 = .ok (.if_icmp .ge 61, 3) := dk_162 0 61 (dk_at dksX1_room_2 20 rfl rfl)
theorem dX1_room_69 : decode cX1_room 69 = .ok (.iinc 4 1, 3) := dk_132 4 1 (dk_at dksX1_room_3 0 rfl rfl)
theorem dX1_room_72 : decode cX1_room 72 = .ok (.aload_n 3, 1) := dk_45 (dk_at dksX1_room_3 3 rfl rfl)
theorem dX1_room_73 : decode cX1_room 73 = .ok (.getfield 267, 3) := dk_180 1 11 (dk_at dksX1_room_3 4 rfl rfl)
theorem dX1_room_76 : decode cX1_room 76 = .ok (.iconst 2, 1) := dk_5 (dk_at dksX1_room_3 7 rfl rfl)
theorem dX1_room_77 : decode cX1_room 77 = .ok (.iload_n 2, 1) := dk_28 (dk_at dksX1_room_3 8 rfl rfl)
theorem dX1_room_78 : decode cX1_room 78 = .ok (.iadd, 1) := dk_96 (dk_at dksX1_room_3 9 rfl rfl)
theorem dX1_room_79 : decode cX1_room 79 = .ok (.dup2, 1) := dk_92 (dk_at dksX1_room_3 10 rfl rfl)
theorem dX1_room_80 : decode cX1_room 80 = .ok (.laload, 1) := dk_47 (dk_at dksX1_room_3 11 rfl rfl)
theorem dX1_room_81 : decode cX1_room 81 = .ok (.lconst 1, 1) := dk_10 (dk_at dksX1_room_3 12 rfl rfl)
theorem dX1_room_82 : decode cX1_room 82 = .ok (.ladd, 1) := dk_97 (dk_at dksX1_room_3 13 rfl rfl)
theorem dX1_room_83 : decode cX1_room 83 = .ok (.lastore, 1) := dk_80 (dk_at dksX1_room_3 14 rfl rfl)
theorem dX1_room_84 : decode cX1_room 84 = .ok (.aload_n 3, 1) := dk_45 (dk_at dksX1_room_3 15 rfl rfl)
theorem dX1_room_85 : decode cX1_room 85 = .ok (.aload_n 3, 1) := dk_45 (dk_at dksX1_room_3 16 rfl rfl)
theorem dX1_room_86 : decode cX1_room 86 = .ok (.aload_n 0, 1) := dk_42 (dk_at dksX1_room_3 17 rfl rfl)
theorem dX1_room_87 : decode cX1_room 87 = .ok (.getfield 65, 3) := dk_180 0 65 (dk_at dksX1_room_3 18 rfl rfl)
theorem dX1_room_90 : decode cX1_room 90 = .ok (.iload_n 1, 1) := dk_27 (dk_at dksX1_room_3 21 rfl rfl)
theorem dX1_room_91 : decode cX1_room 91 = .ok (.aload_n 3, 1) := dk_45 (dk_at dksX1_room_3 22 rfl rfl)
theorem dX1_room_92 : decode cX1_room 92 = .ok (.invokevirtual 424, 3) := dk_182 1 168 (dk_at dksX1_room_4 0 rfl rfl)
theorem dX1_room_95 : decode cX1_room 95 = .ok (.aload_n 0, 1) := dk_42 (dk_at dksX1_room_4 3 rfl rfl)
theorem dX1_room_96 : decode cX1_room 96 = .ok (.getfield 54, 3) := dk_180 0 54 (dk_at dksX1_room_4 4 rfl rfl)
theorem dX1_room_99 : decode cX1_room 99 = .ok (.getfield 328, 3) := dk_180 1 72 (dk_at dksX1_room_4 7 rfl rfl)
theorem dX1_room_102 : decode cX1_room 102 = .ok (.aload_n 0, 1) := dk_42 (dk_at dksX1_room_4 10 rfl rfl)
theorem dX1_room_103 : decode cX1_room 103 = .ok (.getfield 65, 3) := dk_180 0 65 (dk_at dksX1_room_4 11 rfl rfl)
theorem dX1_room_106 : decode cX1_room 106 = .ok (.invokevirtual 331, 3) := dk_182 1 75 (dk_at dksX1_room_4 14 rfl rfl)
theorem dX1_room_109 : decode cX1_room 109 = .ok (.invokevirtual 335, 3) := dk_182 1 79 (dk_at dksX1_room_4 17 rfl rfl)
theorem dX1_room_112 : decode cX1_room 112 = .ok (.aload_n 0, 1) := dk_42 (dk_at dksX1_room_4 20 rfl rfl)
theorem dX1_room_113 : decode cX1_room 113 = .ok (.getfield 54, 3) := dk_180 0 54 (dk_at dksX1_room_4 21 rfl rfl)
theorem dX1_room_116 : decode cX1_room 116 = .ok (.getfield 339, 3) := dk_180 1 83 (dk_at dksX1_room_5 0 rfl rfl)
theorem dX1_room_119 : decode cX1_room 119 = .ok (.invokevirtual 342, 3) := dk_182 1 86 (dk_at dksX1_room_5 3 rfl rfl)
theorem dX1_room_122 : decode cX1_room 122 = .ok (.istore 5, 2) := dk_54 5 (dk_at dksX1_room_5 6 rfl rfl)
theorem dX1_room_124 : decode cX1_room 124 = .ok (.goto (-68), 3) := dk_167 255 188 (dk_at dksX1_room_5 8 rfl rfl)
theorem dX1_room_127 : decode cX1_room 127 = .ok (.iload 5, 2) := dk_21 5 (dk_at dksX1_room_5 11 rfl rfl)
theorem dX1_room_129 : decode cX1_room 129 = .ok (.ifCond .eq 9, 3) := dk_153 0 9 (dk_at dksX1_room_5 13 rfl rfl)
theorem dX1_room_132 : decode cX1_room 132 = .ok (.sipush 9999, 3) := dk_17 39 15 (dk_at dksX1_room_5 16 rfl rfl)
theorem dX1_room_135 : decode cX1_room 135 = .ok (.goto 7, 3) := dk_167 0 7 (dk_at dksX1_room_5 19 rfl rfl)
theorem dX1_room_138 : decode cX1_room 138 = .ok (.iload 4, 2) := dk_21 4 (dk_at dksX1_room_5 22 rfl rfl)
theorem dX1_room_140 : decode cX1_room 140 = .ok (.iconst 1, 1) := dk_4 (dk_at dksX1_room_6 0 rfl rfl)
theorem dX1_room_141 : decode cX1_room 141 = .ok (.isub, 1) := dk_100 (dk_at dksX1_room_6 1 rfl rfl)
theorem dX1_room_142 : decode cX1_room 142 = .ok (.ireturn, 1) := dk_172 (dk_at dksX1_room_6 2 rfl rfl)
abbrev cX1_would : ByteArray := prog_1_method_53_code
def yX1_would : MethodName := ⟨RX1, "would", "(II)I"⟩
def dkwX1_would_3 : List UInt8 := [100, 182, 1, 191, 167, 0, 6, 19, 1, 94, 172]
abbrev dktX1_would_3 : List UInt8 := dkwX1_would_3 ++ []
def dkwX1_would_2 : List UInt8 := [180, 0, 65, 45, 182, 1, 188, 45, 180, 0, 232, 4, 100, 45, 42, 180, 0, 65, 180, 0, 142, 182, 1, 37]
abbrev dktX1_would_2 : List UInt8 := dkwX1_would_2 ++ dktX1_would_3
def dkwX1_would_1 : List UInt8 := [180, 0, 65, 27, 182, 0, 222, 78, 45, 182, 1, 29, 153, 0, 41, 42, 180, 0, 65, 45, 28, 42]
abbrev dktX1_would_1 : List UInt8 := dkwX1_would_1 ++ dktX1_would_2
def dkwX1_would_0 : List UInt8 := [42, 27, 182, 0, 219, 153, 0, 13, 28, 133, 9, 10, 184, 0, 96, 154, 0, 7, 19, 1, 94, 172, 42]
abbrev dktX1_would_0 : List UInt8 := dkwX1_would_0 ++ dktX1_would_1
theorem dksX1_would_0 : cX1_would.data.toList.drop 0 = dktX1_would_0 := by decide +kernel
theorem dksX1_would_1 : cX1_would.data.toList.drop 23 = dktX1_would_1 := dk_seg dksX1_would_0 23 rfl rfl
theorem dksX1_would_2 : cX1_would.data.toList.drop 45 = dktX1_would_2 := dk_seg dksX1_would_1 22 rfl rfl
theorem dksX1_would_3 : cX1_would.data.toList.drop 69 = dktX1_would_3 := dk_seg dksX1_would_2 24 rfl rfl
theorem dX1_would_0 : decode cX1_would 0 = .ok (.aload_n 0, 1) := dk_42 (dk_at dksX1_would_0 0 rfl rfl)
theorem dX1_would_1 : decode cX1_would 1 = .ok (.iload_n 1, 1) := dk_27 (dk_at dksX1_would_0 1 rfl rfl)
theorem dX1_would_2 : decode cX1_would 2 = .ok (.invokevirtual 219, 3) := dk_182 0 219 (dk_at dksX1_would_0 2 rfl rfl)
theorem dX1_would_5 : decode cX1_would 5 = .ok (.ifCond .eq 13, 3) := dk_153 0 13 (dk_at dksX1_would_0 5 rfl rfl)
theorem dX1_would_8 : decode cX1_would 8 = .ok (.iload_n 2, 1) := dk_28 (dk_at dksX1_would_0 8 rfl rfl)
theorem dX1_would_9 : decode cX1_would 9 = .ok (.i2l, 1) := dk_133 (dk_at dksX1_would_0 9 rfl rfl)
theorem dX1_would_10 : decode cX1_would 10 = .ok (.lconst 0, 1) := dk_9 (dk_at dksX1_would_0 10 rfl rfl)
theorem dX1_would_11 : decode cX1_would 11 = .ok (.lconst 1, 1) := dk_10 (dk_at dksX1_would_0 11 rfl rfl)
theorem dX1_would_12 : decode cX1_would 12 = .ok (.invokestatic 96, 3) := dk_184 0 96 (dk_at dksX1_would_0 12 rfl rfl)
theorem dX1_would_15 : decode cX1_would 15 = .ok (.ifCond .ne 7, 3) := dk_154 0 7 (dk_at dksX1_would_0 15 rfl rfl)
theorem dX1_would_18 : decode cX1_would 18 = .ok (.ldc_w 350, 3) := dk_19 1 94 (dk_at dksX1_would_0 18 rfl rfl)
theorem dX1_would_21 : decode cX1_would 21 = .ok (.ireturn, 1) := dk_172 (dk_at dksX1_would_0 21 rfl rfl)
theorem dX1_would_22 : decode cX1_would 22 = .ok (.aload_n 0, 1) := dk_42 (dk_at dksX1_would_0 22 rfl rfl)
theorem dX1_would_23 : decode cX1_would 23 = .ok (.getfield 65, 3) := dk_180 0 65 (dk_at dksX1_would_1 0 rfl rfl)
theorem dX1_would_26 : decode cX1_would 26 = .ok (.iload_n 1, 1) := dk_27 (dk_at dksX1_would_1 3 rfl rfl)
theorem dX1_would_27 : decode cX1_would 27 = .ok (.invokevirtual 222, 3) := dk_182 0 222 (dk_at dksX1_would_1 4 rfl rfl)
theorem dX1_would_30 : decode cX1_would 30 = .ok (.astore_n 3, 1) := dk_78 (dk_at dksX1_would_1 7 rfl rfl)
theorem dX1_would_31 : decode cX1_would 31 = .ok (.aload_n 3, 1) := dk_45 (dk_at dksX1_would_1 8 rfl rfl)
theorem dX1_would_32 : decode cX1_would 32 = .ok (.invokevirtual 285, 3) := dk_182 1 29 (dk_at dksX1_would_1 9 rfl rfl)
theorem dX1_would_35 : decode cX1_would 35 = .ok (.ifCond .eq 41, 3) := dk_153 0 41 (dk_at dksX1_would_1 12 rfl rfl)
theorem dX1_would_38 : decode cX1_would 38 = .ok (.aload_n 0, 1) := dk_42 (dk_at dksX1_would_1 15 rfl rfl)
theorem dX1_would_39 : decode cX1_would 39 = .ok (.getfield 65, 3) := dk_180 0 65 (dk_at dksX1_would_1 16 rfl rfl)
theorem dX1_would_42 : decode cX1_would 42 = .ok (.aload_n 3, 1) := dk_45 (dk_at dksX1_would_1 19 rfl rfl)
theorem dX1_would_43 : decode cX1_would 43 = .ok (.iload_n 2, 1) := dk_28 (dk_at dksX1_would_1 20 rfl rfl)
theorem dX1_would_44 : decode cX1_would 44 = .ok (.aload_n 0, 1) := dk_42 (dk_at dksX1_would_1 21 rfl rfl)
theorem dX1_would_45 : decode cX1_would 45 = .ok (.getfield 65, 3) := dk_180 0 65 (dk_at dksX1_would_2 0 rfl rfl)
theorem dX1_would_48 : decode cX1_would 48 = .ok (.aload_n 3, 1) := dk_45 (dk_at dksX1_would_2 3 rfl rfl)
theorem dX1_would_49 : decode cX1_would 49 = .ok (.invokevirtual 444, 3) := dk_182 1 188 (dk_at dksX1_would_2 4 rfl rfl)
theorem dX1_would_52 : decode cX1_would 52 = .ok (.aload_n 3, 1) := dk_45 (dk_at dksX1_would_2 7 rfl rfl)
theorem dX1_would_53 : decode cX1_would 53 = .ok (.getfield 232, 3) := dk_180 0 232 (dk_at dksX1_would_2 8 rfl rfl)
theorem dX1_would_56 : decode cX1_would 56 = .ok (.iconst 1, 1) := dk_4 (dk_at dksX1_would_2 11 rfl rfl)
theorem dX1_would_57 : decode cX1_would 57 = .ok (.isub, 1) := dk_100 (dk_at dksX1_would_2 12 rfl rfl)
theorem dX1_would_58 : decode cX1_would 58 = .ok (.aload_n 3, 1) := dk_45 (dk_at dksX1_would_2 13 rfl rfl)
theorem dX1_would_59 : decode cX1_would 59 = .ok (.aload_n 0, 1) := dk_42 (dk_at dksX1_would_2 14 rfl rfl)
theorem dX1_would_60 : decode cX1_would 60 = .ok (.getfield 65, 3) := dk_180 0 65 (dk_at dksX1_would_2 15 rfl rfl)
theorem dX1_would_63 : decode cX1_would 63 = .ok (.getfield 142, 3) := dk_180 0 142 (dk_at dksX1_would_2 18 rfl rfl)
theorem dX1_would_66 : decode cX1_would 66 = .ok (.invokevirtual 293, 3) := dk_182 1 37 (dk_at dksX1_would_2 21 rfl rfl)
theorem dX1_would_69 : decode cX1_would 69 = .ok (.isub, 1) := dk_100 (dk_at dksX1_would_3 0 rfl rfl)
theorem dX1_would_70 : decode cX1_would 70 = .ok (.invokevirtual 447, 3) := dk_182 1 191 (dk_at dksX1_would_3 1 rfl rfl)
theorem dX1_would_73 : decode cX1_would 73 = .ok (.goto 6, 3) := dk_167 0 6 (dk_at dksX1_would_3 4 rfl rfl)
theorem dX1_would_76 : decode cX1_would 76 = .ok (.ldc_w 350, 3) := dk_19 1 94 (dk_at dksX1_would_3 7 rfl rfl)
theorem dX1_would_79 : decode cX1_would 79 = .ok (.ireturn, 1) := dk_172 (dk_at dksX1_would_3 10 rfl rfl)
abbrev cX1_bestWait : ByteArray := prog_1_method_54_code
def yX1_bestWait : MethodName := ⟨RX1, "bestWait", "(II)I"⟩
def dkwX1_bestWait_8 : List UInt8 := [167, 255, 184, 21, 7, 172]
abbrev dktX1_bestWait_8 : List UInt8 := dkwX1_bestWait_8 ++ []
def dkwX1_bestWait_7 : List UInt8 := [22, 13, 22, 10, 148, 157, 0, 6, 167, 0, 11, 21, 12, 54, 7, 22, 13, 55, 10, 132, 12, 1]
abbrev dktX1_bestWait_7 : List UInt8 := dkwX1_bestWait_7 ++ dktX1_bestWait_8
def dkwX1_bestWait_6 : List UInt8 := [180, 0, 65, 45, 28, 21, 6, 21, 5, 21, 12, 100, 182, 1, 191, 133, 97, 55, 13, 21, 12, 158, 0, 14]
abbrev dktX1_bestWait_6 : List UInt8 := dkwX1_bestWait_6 ++ dktX1_bestWait_7
def dkwX1_bestWait_5 : List UInt8 := [163, 0, 71, 22, 8, 21, 4, 154, 0, 8, 21, 12, 167, 0, 7, 21, 12, 4, 96, 133, 105, 42]
abbrev dktX1_bestWait_5 : List UInt8 := dkwX1_bestWait_5 ++ dktX1_bestWait_6
def dkwX1_bestWait_4 : List UInt8 := [42, 180, 0, 65, 182, 1, 75, 182, 1, 198, 55, 8, 9, 55, 10, 3, 54, 12, 21, 12, 21, 5]
abbrev dktX1_bestWait_4 : List UInt8 := dkwX1_bestWait_4 ++ dktX1_bestWait_5
def dkwX1_bestWait_3 : List UInt8 := [54, 6, 3, 54, 7, 45, 42, 180, 0, 65, 45, 182, 1, 195, 21, 6, 4, 42, 180, 0, 54, 180, 1, 72]
abbrev dktX1_bestWait_3 : List UInt8 := dkwX1_bestWait_3 ++ dktX1_bestWait_4
def dkwX1_bestWait_2 : List UInt8 := [182, 1, 37, 54, 4, 45, 180, 0, 232, 4, 100, 21, 4, 100, 54, 5, 42, 180, 0, 65, 45, 182, 1, 188]
abbrev dktX1_bestWait_2 : List UInt8 := dkwX1_bestWait_2 ++ dktX1_bestWait_3
def dkwX1_bestWait_1 : List UInt8 := [27, 182, 0, 222, 78, 45, 182, 1, 29, 154, 0, 6, 16, 254, 172, 45, 42, 180, 0, 65, 180, 0, 142]
abbrev dktX1_bestWait_1 : List UInt8 := dkwX1_bestWait_1 ++ dktX1_bestWait_2
def dkwX1_bestWait_0 : List UInt8 := [42, 27, 182, 0, 219, 153, 0, 13, 28, 133, 9, 10, 184, 0, 96, 154, 0, 5, 2, 172, 42, 180, 0, 65]
abbrev dktX1_bestWait_0 : List UInt8 := dkwX1_bestWait_0 ++ dktX1_bestWait_1
theorem dksX1_bestWait_0 : cX1_bestWait.data.toList.drop 0 = dktX1_bestWait_0 := by decide +kernel
theorem dksX1_bestWait_1 : cX1_bestWait.data.toList.drop 24 = dktX1_bestWait_1 := dk_seg dksX1_bestWait_0 24 rfl rfl
theorem dksX1_bestWait_2 : cX1_bestWait.data.toList.drop 47 = dktX1_bestWait_2 := dk_seg dksX1_bestWait_1 23 rfl rfl
theorem dksX1_bestWait_3 : cX1_bestWait.data.toList.drop 71 = dktX1_bestWait_3 := dk_seg dksX1_bestWait_2 24 rfl rfl
theorem dksX1_bestWait_4 : cX1_bestWait.data.toList.drop 95 = dktX1_bestWait_4 := dk_seg dksX1_bestWait_3 24 rfl rfl
theorem dksX1_bestWait_5 : cX1_bestWait.data.toList.drop 117 = dktX1_bestWait_5 := dk_seg dksX1_bestWait_4 22 rfl rfl
theorem dksX1_bestWait_6 : cX1_bestWait.data.toList.drop 139 = dktX1_bestWait_6 := dk_seg dksX1_bestWait_5 22 rfl rfl
theorem dksX1_bestWait_7 : cX1_bestWait.data.toList.drop 163 = dktX1_bestWait_7 := dk_seg dksX1_bestWait_6 24 rfl rfl
theorem dksX1_bestWait_8 : cX1_bestWait.data.toList.drop 185 = dktX1_bestWait_8 := dk_seg dksX1_bestWait_7 22 rfl rfl
theorem dX1_bestWait_0 : decode cX1_bestWait 0 = .ok (.aload_n 0, 1) := dk_42 (dk_at dksX1_bestWait_0 0 rfl rfl)
theorem dX1_bestWait_1 : decode cX1_bestWait 1 = .ok (.iload_n 1, 1) := dk_27 (dk_at dksX1_bestWait_0 1 rfl rfl)
theorem dX1_bestWait_2 : decode cX1_bestWait 2 = .ok (.invokevirtual 219, 3) := dk_182 0 219 (dk_at dksX1_bestWait_0 2 rfl rfl)
theorem dX1_bestWait_5 : decode cX1_bestWait 5 = .ok (.ifCond .eq 13, 3) := dk_153 0 13 (dk_at dksX1_bestWait_0 5 rfl rfl)
theorem dX1_bestWait_8 : decode cX1_bestWait 8 = .ok (.iload_n 2, 1) := dk_28 (dk_at dksX1_bestWait_0 8 rfl rfl)
theorem dX1_bestWait_9 : decode cX1_bestWait 9 = .ok (.i2l, 1) := dk_133 (dk_at dksX1_bestWait_0 9 rfl rfl)
theorem dX1_bestWait_10 : decode cX1_bestWait 10 = .ok (.lconst 0, 1) := dk_9 (dk_at dksX1_bestWait_0 10 rfl rfl)
theorem dX1_bestWait_11 : decode cX1_bestWait 11 = .ok (.lconst 1, 1) := dk_10 (dk_at dksX1_bestWait_0 11 rfl rfl)
theorem dX1_bestWait_12 : decode cX1_bestWait 12 = .ok (.invokestatic 96, 3) := dk_184 0 96 (dk_at dksX1_bestWait_0 12 rfl rfl)
theorem dX1_bestWait_15 : decode cX1_bestWait 15 = .ok (.ifCond .ne 5, 3) := dk_154 0 5 (dk_at dksX1_bestWait_0 15 rfl rfl)
theorem dX1_bestWait_18 : decode cX1_bestWait 18 = .ok (.iconst (-1), 1) := dk_2 (dk_at dksX1_bestWait_0 18 rfl rfl)
theorem dX1_bestWait_19 : decode cX1_bestWait 19 = .ok (.ireturn, 1) := dk_172 (dk_at dksX1_bestWait_0 19 rfl rfl)
theorem dX1_bestWait_20 : decode cX1_bestWait 20 = .ok (.aload_n 0, 1) := dk_42 (dk_at dksX1_bestWait_0 20 rfl rfl)
theorem dX1_bestWait_21 : decode cX1_bestWait 21 = .ok (.getfield 65, 3) := dk_180 0 65 (dk_at dksX1_bestWait_0 21 rfl rfl)
theorem dX1_bestWait_24 : decode cX1_bestWait 24 = .ok (.iload_n 1, 1) := dk_27 (dk_at dksX1_bestWait_1 0 rfl rfl)
theorem dX1_bestWait_25 : decode cX1_bestWait 25 = .ok (.invokevirtual 222, 3) := dk_182 0 222 (dk_at dksX1_bestWait_1 1 rfl rfl)
theorem dX1_bestWait_28 : decode cX1_bestWait 28 = .ok (.astore_n 3, 1) := dk_78 (dk_at dksX1_bestWait_1 4 rfl rfl)
theorem dX1_bestWait_29 : decode cX1_bestWait 29 = .ok (.aload_n 3, 1) := dk_45 (dk_at dksX1_bestWait_1 5 rfl rfl)
theorem dX1_bestWait_30 : decode cX1_bestWait 30 = .ok (.invokevirtual 285, 3) := dk_182 1 29 (dk_at dksX1_bestWait_1 6 rfl rfl)
theorem dX1_bestWait_33 : decode cX1_bestWait 33 = .ok (.ifCond .ne 6, 3) := dk_154 0 6 (dk_at dksX1_bestWait_1 9 rfl rfl)
theorem dX1_bestWait_36 : decode cX1_bestWait 36 = .ok (.bipush (-2), 2) := dk_16 254 (dk_at dksX1_bestWait_1 12 rfl rfl)
theorem dX1_bestWait_38 : decode cX1_bestWait 38 = .ok (.ireturn, 1) := dk_172 (dk_at dksX1_bestWait_1 14 rfl rfl)
theorem dX1_bestWait_39 : decode cX1_bestWait 39 = .ok (.aload_n 3, 1) := dk_45 (dk_at dksX1_bestWait_1 15 rfl rfl)
theorem dX1_bestWait_40 : decode cX1_bestWait 40 = .ok (.aload_n 0, 1) := dk_42 (dk_at dksX1_bestWait_1 16 rfl rfl)
theorem dX1_bestWait_41 : decode cX1_bestWait 41 = .ok (.getfield 65, 3) := dk_180 0 65 (dk_at dksX1_bestWait_1 17 rfl rfl)
theorem dX1_bestWait_44 : decode cX1_bestWait 44 = .ok (.getfield 142, 3) := dk_180 0 142 (dk_at dksX1_bestWait_1 20 rfl rfl)
theorem dX1_bestWait_47 : decode cX1_bestWait 47 = .ok (.invokevirtual 293, 3) := dk_182 1 37 (dk_at dksX1_bestWait_2 0 rfl rfl)
theorem dX1_bestWait_50 : decode cX1_bestWait 50 = .ok (.istore 4, 2) := dk_54 4 (dk_at dksX1_bestWait_2 3 rfl rfl)
theorem dX1_bestWait_52 : decode cX1_bestWait 52 = .ok (.aload_n 3, 1) := dk_45 (dk_at dksX1_bestWait_2 5 rfl rfl)
theorem dX1_bestWait_53 : decode cX1_bestWait 53 = .ok (.getfield 232, 3) := dk_180 0 232 (dk_at dksX1_bestWait_2 6 rfl rfl)
theorem dX1_bestWait_56 : decode cX1_bestWait 56 = .ok (.iconst 1, 1) := dk_4 (dk_at dksX1_bestWait_2 9 rfl rfl)
theorem dX1_bestWait_57 : decode cX1_bestWait 57 = .ok (.isub, 1) := dk_100 (dk_at dksX1_bestWait_2 10 rfl rfl)
theorem dX1_bestWait_58 : decode cX1_bestWait 58 = .ok (.iload 4, 2) := dk_21 4 (dk_at dksX1_bestWait_2 11 rfl rfl)
theorem dX1_bestWait_60 : decode cX1_bestWait 60 = .ok (.isub, 1) := dk_100 (dk_at dksX1_bestWait_2 13 rfl rfl)
theorem dX1_bestWait_61 : decode cX1_bestWait 61 = .ok (.istore 5, 2) := dk_54 5 (dk_at dksX1_bestWait_2 14 rfl rfl)
theorem dX1_bestWait_63 : decode cX1_bestWait 63 = .ok (.aload_n 0, 1) := dk_42 (dk_at dksX1_bestWait_2 16 rfl rfl)
theorem dX1_bestWait_64 : decode cX1_bestWait 64 = .ok (.getfield 65, 3) := dk_180 0 65 (dk_at dksX1_bestWait_2 17 rfl rfl)
theorem dX1_bestWait_67 : decode cX1_bestWait 67 = .ok (.aload_n 3, 1) := dk_45 (dk_at dksX1_bestWait_2 20 rfl rfl)
theorem dX1_bestWait_68 : decode cX1_bestWait 68 = .ok (.invokevirtual 444, 3) := dk_182 1 188 (dk_at dksX1_bestWait_2 21 rfl rfl)
theorem dX1_bestWait_71 : decode cX1_bestWait 71 = .ok (.istore 6, 2) := dk_54 6 (dk_at dksX1_bestWait_3 0 rfl rfl)
theorem dX1_bestWait_73 : decode cX1_bestWait 73 = .ok (.iconst 0, 1) := dk_3 (dk_at dksX1_bestWait_3 2 rfl rfl)
theorem dX1_bestWait_74 : decode cX1_bestWait 74 = .ok (.istore 7, 2) := dk_54 7 (dk_at dksX1_bestWait_3 3 rfl rfl)
theorem dX1_bestWait_76 : decode cX1_bestWait 76 = .ok (.aload_n 3, 1) := dk_45 (dk_at dksX1_bestWait_3 5 rfl rfl)
theorem dX1_bestWait_77 : decode cX1_bestWait 77 = .ok (.aload_n 0, 1) := dk_42 (dk_at dksX1_bestWait_3 6 rfl rfl)
theorem dX1_bestWait_78 : decode cX1_bestWait 78 = .ok (.getfield 65, 3) := dk_180 0 65 (dk_at dksX1_bestWait_3 7 rfl rfl)
theorem dX1_bestWait_81 : decode cX1_bestWait 81 = .ok (.aload_n 3, 1) := dk_45 (dk_at dksX1_bestWait_3 10 rfl rfl)
theorem dX1_bestWait_82 : decode cX1_bestWait 82 = .ok (.invokevirtual 451, 3) := dk_182 1 195 (dk_at dksX1_bestWait_3 11 rfl rfl)
theorem dX1_bestWait_85 : decode cX1_bestWait 85 = .ok (.iload 6, 2) := dk_21 6 (dk_at dksX1_bestWait_3 14 rfl rfl)
theorem dX1_bestWait_87 : decode cX1_bestWait 87 = .ok (.iconst 1, 1) := dk_4 (dk_at dksX1_bestWait_3 16 rfl rfl)
theorem dX1_bestWait_88 : decode cX1_bestWait 88 = .ok (.aload_n 0, 1) := dk_42 (dk_at dksX1_bestWait_3 17 rfl rfl)
theorem dX1_bestWait_89 : decode cX1_bestWait 89 = .ok (.getfield 54, 3) := dk_180 0 54 (dk_at dksX1_bestWait_3 18 rfl rfl)
theorem dX1_bestWait_92 : decode cX1_bestWait 92 = .ok (.getfield 328, 3) := dk_180 1 72 (dk_at dksX1_bestWait_3 21 rfl rfl)
theorem dX1_bestWait_95 : decode cX1_bestWait 95 = .ok (.aload_n 0, 1) := dk_42 (dk_at dksX1_bestWait_4 0 rfl rfl)
theorem dX1_bestWait_96 : decode cX1_bestWait 96 = .ok (.getfield 65, 3) := dk_180 0 65 (dk_at dksX1_bestWait_4 1 rfl rfl)
theorem dX1_bestWait_99 : decode cX1_bestWait 99 = .ok (.invokevirtual 331, 3) := dk_182 1 75 (dk_at dksX1_bestWait_4 4 rfl rfl)
theorem dX1_bestWait_102 : decode cX1_bestWait 102 = .ok (.invokevirtual 454, 3) := dk_182 1 198 (dk_at dksX1_bestWait_4 7 rfl rfl)
theorem dX1_bestWait_105 : decode cX1_bestWait 105 = .ok (.lstore 8, 2) := dk_55 8 (dk_at dksX1_bestWait_4 10 rfl rfl)
theorem dX1_bestWait_107 : decode cX1_bestWait 107 = .ok (.lconst 0, 1) := dk_9 (dk_at dksX1_bestWait_4 12 rfl rfl)
theorem dX1_bestWait_108 : decode cX1_bestWait 108 = .ok (.lstore 10, 2) := dk_55 10 (dk_at dksX1_bestWait_4 13 rfl rfl)
theorem dX1_bestWait_110 : decode cX1_bestWait 110 = .ok (.iconst 0, 1) := dk_3 (dk_at dksX1_bestWait_4 15 rfl rfl)
theorem dX1_bestWait_111 : decode cX1_bestWait 111 = .ok (.istore 12, 2) := dk_54 12 (dk_at dksX1_bestWait_4 16 rfl rfl)
theorem dX1_bestWait_113 : decode cX1_bestWait 113 = .ok (.iload 12, 2) := dk_21 12 (dk_at dksX1_bestWait_4 18 rfl rfl)
theorem dX1_bestWait_115 : decode cX1_bestWait 115 = .ok (.iload 5, 2) := dk_21 5 (dk_at dksX1_bestWait_4 20 rfl rfl)
theorem dX1_bestWait_117 : decode cX1_bestWait 117 = .ok (.if_icmp .gt 71, 3) := dk_163 0 71 (dk_at dksX1_bestWait_5 0 rfl rfl)
theorem dX1_bestWait_120 : decode cX1_bestWait 120 = .ok (.lload 8, 2) := dk_22 8 (dk_at dksX1_bestWait_5 3 rfl rfl)
theorem dX1_bestWait_122 : decode cX1_bestWait 122 = .ok (.iload 4, 2) := dk_21 4 (dk_at dksX1_bestWait_5 5 rfl rfl)
theorem dX1_bestWait_124 : decode cX1_bestWait 124 = .ok (.ifCond .ne 8, 3) := dk_154 0 8 (dk_at dksX1_bestWait_5 7 rfl rfl)
theorem dX1_bestWait_127 : decode cX1_bestWait 127 = .ok (.iload 12, 2) := dk_21 12 (dk_at dksX1_bestWait_5 10 rfl rfl)
theorem dX1_bestWait_129 : decode cX1_bestWait 129 = .ok (.goto 7, 3) := dk_167 0 7 (dk_at dksX1_bestWait_5 12 rfl rfl)
theorem dX1_bestWait_132 : decode cX1_bestWait 132 = .ok (.iload 12, 2) := dk_21 12 (dk_at dksX1_bestWait_5 15 rfl rfl)
theorem dX1_bestWait_134 : decode cX1_bestWait 134 = .ok (.iconst 1, 1) := dk_4 (dk_at dksX1_bestWait_5 17 rfl rfl)
theorem dX1_bestWait_135 : decode cX1_bestWait 135 = .ok (.iadd, 1) := dk_96 (dk_at dksX1_bestWait_5 18 rfl rfl)
theorem dX1_bestWait_136 : decode cX1_bestWait 136 = .ok (.i2l, 1) := dk_133 (dk_at dksX1_bestWait_5 19 rfl rfl)
theorem dX1_bestWait_137 : decode cX1_bestWait 137 = .ok (.lmul, 1) := dk_105 (dk_at dksX1_bestWait_5 20 rfl rfl)
theorem dX1_bestWait_138 : decode cX1_bestWait 138 = .ok (.aload_n 0, 1) := dk_42 (dk_at dksX1_bestWait_5 21 rfl rfl)
theorem dX1_bestWait_139 : decode cX1_bestWait 139 = .ok (.getfield 65, 3) := dk_180 0 65 (dk_at dksX1_bestWait_6 0 rfl rfl)
theorem dX1_bestWait_142 : decode cX1_bestWait 142 = .ok (.aload_n 3, 1) := dk_45 (dk_at dksX1_bestWait_6 3 rfl rfl)
theorem dX1_bestWait_143 : decode cX1_bestWait 143 = .ok (.iload_n 2, 1) := dk_28 (dk_at dksX1_bestWait_6 4 rfl rfl)
theorem dX1_bestWait_144 : decode cX1_bestWait 144 = .ok (.iload 6, 2) := dk_21 6 (dk_at dksX1_bestWait_6 5 rfl rfl)
theorem dX1_bestWait_146 : decode cX1_bestWait 146 = .ok (.iload 5, 2) := dk_21 5 (dk_at dksX1_bestWait_6 7 rfl rfl)
theorem dX1_bestWait_148 : decode cX1_bestWait 148 = .ok (.iload 12, 2) := dk_21 12 (dk_at dksX1_bestWait_6 9 rfl rfl)
theorem dX1_bestWait_150 : decode cX1_bestWait 150 = .ok (.isub, 1) := dk_100 (dk_at dksX1_bestWait_6 11 rfl rfl)
theorem dX1_bestWait_151 : decode cX1_bestWait 151 = .ok (.invokevirtual 447, 3) := dk_182 1 191 (dk_at dksX1_bestWait_6 12 rfl rfl)
theorem dX1_bestWait_154 : decode cX1_bestWait 154 = .ok (.i2l, 1) := dk_133 (dk_at dksX1_bestWait_6 15 rfl rfl)
theorem dX1_bestWait_155 : decode cX1_bestWait 155 = .ok (.ladd, 1) := dk_97 (dk_at dksX1_bestWait_6 16 rfl rfl)
theorem dX1_bestWait_156 : decode cX1_bestWait 156 = .ok (.lstore 13, 2) := dk_55 13 (dk_at dksX1_bestWait_6 17 rfl rfl)
theorem dX1_bestWait_158 : decode cX1_bestWait 158 = .ok (.iload 12, 2) := dk_21 12 (dk_at dksX1_bestWait_6 19 rfl rfl)
theorem dX1_bestWait_160 : decode cX1_bestWait 160 = .ok (.ifCond .le 14, 3) := dk_158 0 14 (dk_at dksX1_bestWait_6 21 rfl rfl)
theorem dX1_bestWait_163 : decode cX1_bestWait 163 = .ok (.lload 13, 2) := dk_22 13 (dk_at dksX1_bestWait_7 0 rfl rfl)
theorem dX1_bestWait_165 : decode cX1_bestWait 165 = .ok (.lload 10, 2) := dk_22 10 (dk_at dksX1_bestWait_7 2 rfl rfl)
theorem dX1_bestWait_167 : decode cX1_bestWait 167 = .ok (.lcmp, 1) := dk_148 (dk_at dksX1_bestWait_7 4 rfl rfl)
theorem dX1_bestWait_168 : decode cX1_bestWait 168 = .ok (.ifCond .gt 6, 3) := dk_157 0 6 (dk_at dksX1_bestWait_7 5 rfl rfl)
theorem dX1_bestWait_171 : decode cX1_bestWait 171 = .ok (.goto 11, 3) := dk_167 0 11 (dk_at dksX1_bestWait_7 8 rfl rfl)
theorem dX1_bestWait_174 : decode cX1_bestWait 174 = .ok (.iload 12, 2) := dk_21 12 (dk_at dksX1_bestWait_7 11 rfl rfl)
theorem dX1_bestWait_176 : decode cX1_bestWait 176 = .ok (.istore 7, 2) := dk_54 7 (dk_at dksX1_bestWait_7 13 rfl rfl)
theorem dX1_bestWait_178 : decode cX1_bestWait 178 = .ok (.lload 13, 2) := dk_22 13 (dk_at dksX1_bestWait_7 15 rfl rfl)
theorem dX1_bestWait_180 : decode cX1_bestWait 180 = .ok (.lstore 10, 2) := dk_55 10 (dk_at dksX1_bestWait_7 17 rfl rfl)
theorem dX1_bestWait_182 : decode cX1_bestWait 182 = .ok (.iinc 12 1, 3) := dk_132 12 1 (dk_at dksX1_bestWait_7 19 rfl rfl)
theorem dX1_bestWait_185 : decode cX1_bestWait 185 = .ok (.goto (-72), 3) := dk_167 255 184 (dk_at dksX1_bestWait_8 0 rfl rfl)
theorem dX1_bestWait_188 : decode cX1_bestWait 188 = .ok (.iload 7, 2) := dk_21 7 (dk_at dksX1_bestWait_8 3 rfl rfl)
theorem dX1_bestWait_190 : decode cX1_bestWait 190 = .ok (.ireturn, 1) := dk_172 (dk_at dksX1_bestWait_8 5 rfl rfl)
abbrev cX1_project : ByteArray := prog_1_method_55_code
def yX1_project : MethodName := ⟨RX1, "project", "(II)I"⟩
def dkwX1_project_7 : List UInt8 := [4, 100, 167, 0, 4, 28, 133, 105, 97, 136, 172]
abbrev dktX1_project_7 : List UInt8 := dkwX1_project_7 ++ []
def dkwX1_project_6 : List UInt8 := [167, 0, 12, 42, 180, 0, 65, 45, 182, 1, 117, 133, 55, 8, 22, 8, 22, 6, 21, 4, 154, 0, 9, 28]
abbrev dktX1_project_6 : List UInt8 := dkwX1_project_6 ++ dktX1_project_7
def dkwX1_project_5 : List UInt8 := [182, 1, 75, 45, 180, 0, 229, 133, 21, 5, 133, 105, 42, 180, 0, 54, 180, 1, 72, 133, 182, 1, 202, 133]
abbrev dktX1_project_5 : List UInt8 := dkwX1_project_5 ++ dktX1_project_6
def dkwX1_project_4 : List UInt8 := [42, 180, 0, 65, 182, 1, 75, 182, 1, 198, 55, 6, 45, 180, 0, 238, 2, 160, 0, 34, 42, 180, 0, 65]
abbrev dktX1_project_4 : List UInt8 := dkwX1_project_4 ++ dktX1_project_5
def dkwX1_project_3 : List UInt8 := [182, 1, 188, 54, 5, 45, 42, 180, 0, 65, 45, 182, 1, 195, 21, 5, 4, 42, 180, 0, 54, 180, 1, 72]
abbrev dktX1_project_3 : List UInt8 := dkwX1_project_3 ++ dktX1_project_4
def dkwX1_project_2 : List UInt8 := [180, 0, 232, 21, 4, 100, 133, 184, 0, 96, 154, 0, 7, 19, 1, 94, 172, 42, 180, 0, 65, 45]
abbrev dktX1_project_2 : List UInt8 := dkwX1_project_2 ++ dktX1_project_3
def dkwX1_project_1 : List UInt8 := [180, 0, 65, 180, 0, 142, 182, 1, 37, 54, 4, 45, 182, 1, 29, 153, 0, 20, 28, 133, 10, 45]
abbrev dktX1_project_1 : List UInt8 := dkwX1_project_1 ++ dktX1_project_2
def dkwX1_project_0 : List UInt8 := [42, 27, 182, 0, 219, 154, 0, 7, 19, 1, 94, 172, 42, 180, 0, 65, 27, 182, 0, 222, 78, 45, 42]
abbrev dktX1_project_0 : List UInt8 := dkwX1_project_0 ++ dktX1_project_1
theorem dksX1_project_0 : cX1_project.data.toList.drop 0 = dktX1_project_0 := by decide +kernel
theorem dksX1_project_1 : cX1_project.data.toList.drop 23 = dktX1_project_1 := dk_seg dksX1_project_0 23 rfl rfl
theorem dksX1_project_2 : cX1_project.data.toList.drop 45 = dktX1_project_2 := dk_seg dksX1_project_1 22 rfl rfl
theorem dksX1_project_3 : cX1_project.data.toList.drop 67 = dktX1_project_3 := dk_seg dksX1_project_2 22 rfl rfl
theorem dksX1_project_4 : cX1_project.data.toList.drop 91 = dktX1_project_4 := dk_seg dksX1_project_3 24 rfl rfl
theorem dksX1_project_5 : cX1_project.data.toList.drop 115 = dktX1_project_5 := dk_seg dksX1_project_4 24 rfl rfl
theorem dksX1_project_6 : cX1_project.data.toList.drop 139 = dktX1_project_6 := dk_seg dksX1_project_5 24 rfl rfl
theorem dksX1_project_7 : cX1_project.data.toList.drop 163 = dktX1_project_7 := dk_seg dksX1_project_6 24 rfl rfl
theorem dX1_project_0 : decode cX1_project 0 = .ok (.aload_n 0, 1) := dk_42 (dk_at dksX1_project_0 0 rfl rfl)
theorem dX1_project_1 : decode cX1_project 1 = .ok (.iload_n 1, 1) := dk_27 (dk_at dksX1_project_0 1 rfl rfl)
theorem dX1_project_2 : decode cX1_project 2 = .ok (.invokevirtual 219, 3) := dk_182 0 219 (dk_at dksX1_project_0 2 rfl rfl)
theorem dX1_project_5 : decode cX1_project 5 = .ok (.ifCond .ne 7, 3) := dk_154 0 7 (dk_at dksX1_project_0 5 rfl rfl)
theorem dX1_project_8 : decode cX1_project 8 = .ok (.ldc_w 350, 3) := dk_19 1 94 (dk_at dksX1_project_0 8 rfl rfl)
theorem dX1_project_11 : decode cX1_project 11 = .ok (.ireturn, 1) := dk_172 (dk_at dksX1_project_0 11 rfl rfl)
theorem dX1_project_12 : decode cX1_project 12 = .ok (.aload_n 0, 1) := dk_42 (dk_at dksX1_project_0 12 rfl rfl)
theorem dX1_project_13 : decode cX1_project 13 = .ok (.getfield 65, 3) := dk_180 0 65 (dk_at dksX1_project_0 13 rfl rfl)
theorem dX1_project_16 : decode cX1_project 16 = .ok (.iload_n 1, 1) := dk_27 (dk_at dksX1_project_0 16 rfl rfl)
theorem dX1_project_17 : decode cX1_project 17 = .ok (.invokevirtual 222, 3) := dk_182 0 222 (dk_at dksX1_project_0 17 rfl rfl)
theorem dX1_project_20 : decode cX1_project 20 = .ok (.astore_n 3, 1) := dk_78 (dk_at dksX1_project_0 20 rfl rfl)
theorem dX1_project_21 : decode cX1_project 21 = .ok (.aload_n 3, 1) := dk_45 (dk_at dksX1_project_0 21 rfl rfl)
theorem dX1_project_22 : decode cX1_project 22 = .ok (.aload_n 0, 1) := dk_42 (dk_at dksX1_project_0 22 rfl rfl)
theorem dX1_project_23 : decode cX1_project 23 = .ok (.getfield 65, 3) := dk_180 0 65 (dk_at dksX1_project_1 0 rfl rfl)
theorem dX1_project_26 : decode cX1_project 26 = .ok (.getfield 142, 3) := dk_180 0 142 (dk_at dksX1_project_1 3 rfl rfl)
theorem dX1_project_29 : decode cX1_project 29 = .ok (.invokevirtual 293, 3) := dk_182 1 37 (dk_at dksX1_project_1 6 rfl rfl)
theorem dX1_project_32 : decode cX1_project 32 = .ok (.istore 4, 2) := dk_54 4 (dk_at dksX1_project_1 9 rfl rfl)
theorem dX1_project_34 : decode cX1_project 34 = .ok (.aload_n 3, 1) := dk_45 (dk_at dksX1_project_1 11 rfl rfl)
theorem dX1_project_35 : decode cX1_project 35 = .ok (.invokevirtual 285, 3) := dk_182 1 29 (dk_at dksX1_project_1 12 rfl rfl)
theorem dX1_project_38 : decode cX1_project 38 = .ok (.ifCond .eq 20, 3) := dk_153 0 20 (dk_at dksX1_project_1 15 rfl rfl)
theorem dX1_project_41 : decode cX1_project 41 = .ok (.iload_n 2, 1) := dk_28 (dk_at dksX1_project_1 18 rfl rfl)
theorem dX1_project_42 : decode cX1_project 42 = .ok (.i2l, 1) := dk_133 (dk_at dksX1_project_1 19 rfl rfl)
theorem dX1_project_43 : decode cX1_project 43 = .ok (.lconst 1, 1) := dk_10 (dk_at dksX1_project_1 20 rfl rfl)
theorem dX1_project_44 : decode cX1_project 44 = .ok (.aload_n 3, 1) := dk_45 (dk_at dksX1_project_1 21 rfl rfl)
theorem dX1_project_45 : decode cX1_project 45 = .ok (.getfield 232, 3) := dk_180 0 232 (dk_at dksX1_project_2 0 rfl rfl)
theorem dX1_project_48 : decode cX1_project 48 = .ok (.iload 4, 2) := dk_21 4 (dk_at dksX1_project_2 3 rfl rfl)
theorem dX1_project_50 : decode cX1_project 50 = .ok (.isub, 1) := dk_100 (dk_at dksX1_project_2 5 rfl rfl)
theorem dX1_project_51 : decode cX1_project 51 = .ok (.i2l, 1) := dk_133 (dk_at dksX1_project_2 6 rfl rfl)
theorem dX1_project_52 : decode cX1_project 52 = .ok (.invokestatic 96, 3) := dk_184 0 96 (dk_at dksX1_project_2 7 rfl rfl)
theorem dX1_project_55 : decode cX1_project 55 = .ok (.ifCond .ne 7, 3) := dk_154 0 7 (dk_at dksX1_project_2 10 rfl rfl)
theorem dX1_project_58 : decode cX1_project 58 = .ok (.ldc_w 350, 3) := dk_19 1 94 (dk_at dksX1_project_2 13 rfl rfl)
theorem dX1_project_61 : decode cX1_project 61 = .ok (.ireturn, 1) := dk_172 (dk_at dksX1_project_2 16 rfl rfl)
theorem dX1_project_62 : decode cX1_project 62 = .ok (.aload_n 0, 1) := dk_42 (dk_at dksX1_project_2 17 rfl rfl)
theorem dX1_project_63 : decode cX1_project 63 = .ok (.getfield 65, 3) := dk_180 0 65 (dk_at dksX1_project_2 18 rfl rfl)
theorem dX1_project_66 : decode cX1_project 66 = .ok (.aload_n 3, 1) := dk_45 (dk_at dksX1_project_2 21 rfl rfl)
theorem dX1_project_67 : decode cX1_project 67 = .ok (.invokevirtual 444, 3) := dk_182 1 188 (dk_at dksX1_project_3 0 rfl rfl)
theorem dX1_project_70 : decode cX1_project 70 = .ok (.istore 5, 2) := dk_54 5 (dk_at dksX1_project_3 3 rfl rfl)
theorem dX1_project_72 : decode cX1_project 72 = .ok (.aload_n 3, 1) := dk_45 (dk_at dksX1_project_3 5 rfl rfl)
theorem dX1_project_73 : decode cX1_project 73 = .ok (.aload_n 0, 1) := dk_42 (dk_at dksX1_project_3 6 rfl rfl)
theorem dX1_project_74 : decode cX1_project 74 = .ok (.getfield 65, 3) := dk_180 0 65 (dk_at dksX1_project_3 7 rfl rfl)
theorem dX1_project_77 : decode cX1_project 77 = .ok (.aload_n 3, 1) := dk_45 (dk_at dksX1_project_3 10 rfl rfl)
theorem dX1_project_78 : decode cX1_project 78 = .ok (.invokevirtual 451, 3) := dk_182 1 195 (dk_at dksX1_project_3 11 rfl rfl)
theorem dX1_project_81 : decode cX1_project 81 = .ok (.iload 5, 2) := dk_21 5 (dk_at dksX1_project_3 14 rfl rfl)
theorem dX1_project_83 : decode cX1_project 83 = .ok (.iconst 1, 1) := dk_4 (dk_at dksX1_project_3 16 rfl rfl)
theorem dX1_project_84 : decode cX1_project 84 = .ok (.aload_n 0, 1) := dk_42 (dk_at dksX1_project_3 17 rfl rfl)
theorem dX1_project_85 : decode cX1_project 85 = .ok (.getfield 54, 3) := dk_180 0 54 (dk_at dksX1_project_3 18 rfl rfl)
theorem dX1_project_88 : decode cX1_project 88 = .ok (.getfield 328, 3) := dk_180 1 72 (dk_at dksX1_project_3 21 rfl rfl)
theorem dX1_project_91 : decode cX1_project 91 = .ok (.aload_n 0, 1) := dk_42 (dk_at dksX1_project_4 0 rfl rfl)
theorem dX1_project_92 : decode cX1_project 92 = .ok (.getfield 65, 3) := dk_180 0 65 (dk_at dksX1_project_4 1 rfl rfl)
theorem dX1_project_95 : decode cX1_project 95 = .ok (.invokevirtual 331, 3) := dk_182 1 75 (dk_at dksX1_project_4 4 rfl rfl)
theorem dX1_project_98 : decode cX1_project 98 = .ok (.invokevirtual 454, 3) := dk_182 1 198 (dk_at dksX1_project_4 7 rfl rfl)
theorem dX1_project_101 : decode cX1_project 101 = .ok (.lstore 6, 2) := dk_55 6 (dk_at dksX1_project_4 10 rfl rfl)
theorem dX1_project_103 : decode cX1_project 103 = .ok (.aload_n 3, 1) := dk_45 (dk_at dksX1_project_4 12 rfl rfl)
theorem dX1_project_104 : decode cX1_project 104 = .ok (.getfield 238, 3) := dk_180 0 238 (dk_at dksX1_project_4 13 rfl rfl)
theorem dX1_project_107 : decode cX1_project 107 = .ok (.iconst (-1), 1) := dk_2 (dk_at dksX1_project_4 16 rfl rfl)
theorem dX1_project_108 : decode cX1_project 108 = .ok (.if_icmp .ne 34, 3) := dk_160 0 34 (dk_at dksX1_project_4 17 rfl rfl)
theorem dX1_project_111 : decode cX1_project 111 = .ok (.aload_n 0, 1) := dk_42 (dk_at dksX1_project_4 20 rfl rfl)
theorem dX1_project_112 : decode cX1_project 112 = .ok (.getfield 65, 3) := dk_180 0 65 (dk_at dksX1_project_4 21 rfl rfl)
theorem dX1_project_115 : decode cX1_project 115 = .ok (.invokevirtual 331, 3) := dk_182 1 75 (dk_at dksX1_project_5 0 rfl rfl)
theorem dX1_project_118 : decode cX1_project 118 = .ok (.aload_n 3, 1) := dk_45 (dk_at dksX1_project_5 3 rfl rfl)
theorem dX1_project_119 : decode cX1_project 119 = .ok (.getfield 229, 3) := dk_180 0 229 (dk_at dksX1_project_5 4 rfl rfl)
theorem dX1_project_122 : decode cX1_project 122 = .ok (.i2l, 1) := dk_133 (dk_at dksX1_project_5 7 rfl rfl)
theorem dX1_project_123 : decode cX1_project 123 = .ok (.iload 5, 2) := dk_21 5 (dk_at dksX1_project_5 8 rfl rfl)
theorem dX1_project_125 : decode cX1_project 125 = .ok (.i2l, 1) := dk_133 (dk_at dksX1_project_5 10 rfl rfl)
theorem dX1_project_126 : decode cX1_project 126 = .ok (.lmul, 1) := dk_105 (dk_at dksX1_project_5 11 rfl rfl)
theorem dX1_project_127 : decode cX1_project 127 = .ok (.aload_n 0, 1) := dk_42 (dk_at dksX1_project_5 12 rfl rfl)
theorem dX1_project_128 : decode cX1_project 128 = .ok (.getfield 54, 3) := dk_180 0 54 (dk_at dksX1_project_5 13 rfl rfl)
theorem dX1_project_131 : decode cX1_project 131 = .ok (.getfield 328, 3) := dk_180 1 72 (dk_at dksX1_project_5 16 rfl rfl)
theorem dX1_project_134 : decode cX1_project 134 = .ok (.i2l, 1) := dk_133 (dk_at dksX1_project_5 19 rfl rfl)
theorem dX1_project_135 : decode cX1_project 135 = .ok (.invokevirtual 458, 3) := dk_182 1 202 (dk_at dksX1_project_5 20 rfl rfl)
theorem dX1_project_138 : decode cX1_project 138 = .ok (.i2l, 1) := dk_133 (dk_at dksX1_project_5 23 rfl rfl)
theorem dX1_project_139 : decode cX1_project 139 = .ok (.goto 12, 3) := dk_167 0 12 (dk_at dksX1_project_6 0 rfl rfl)
theorem dX1_project_142 : decode cX1_project 142 = .ok (.aload_n 0, 1) := dk_42 (dk_at dksX1_project_6 3 rfl rfl)
theorem dX1_project_143 : decode cX1_project 143 = .ok (.getfield 65, 3) := dk_180 0 65 (dk_at dksX1_project_6 4 rfl rfl)
theorem dX1_project_146 : decode cX1_project 146 = .ok (.aload_n 3, 1) := dk_45 (dk_at dksX1_project_6 7 rfl rfl)
theorem dX1_project_147 : decode cX1_project 147 = .ok (.invokevirtual 373, 3) := dk_182 1 117 (dk_at dksX1_project_6 8 rfl rfl)
theorem dX1_project_150 : decode cX1_project 150 = .ok (.i2l, 1) := dk_133 (dk_at dksX1_project_6 11 rfl rfl)
theorem dX1_project_151 : decode cX1_project 151 = .ok (.lstore 8, 2) := dk_55 8 (dk_at dksX1_project_6 12 rfl rfl)
theorem dX1_project_153 : decode cX1_project 153 = .ok (.lload 8, 2) := dk_22 8 (dk_at dksX1_project_6 14 rfl rfl)
theorem dX1_project_155 : decode cX1_project 155 = .ok (.lload 6, 2) := dk_22 6 (dk_at dksX1_project_6 16 rfl rfl)
theorem dX1_project_157 : decode cX1_project 157 = .ok (.iload 4, 2) := dk_21 4 (dk_at dksX1_project_6 18 rfl rfl)
theorem dX1_project_159 : decode cX1_project 159 = .ok (.ifCond .ne 9, 3) := dk_154 0 9 (dk_at dksX1_project_6 20 rfl rfl)
theorem dX1_project_162 : decode cX1_project 162 = .ok (.iload_n 2, 1) := dk_28 (dk_at dksX1_project_6 23 rfl rfl)
theorem dX1_project_163 : decode cX1_project 163 = .ok (.iconst 1, 1) := dk_4 (dk_at dksX1_project_7 0 rfl rfl)
theorem dX1_project_164 : decode cX1_project 164 = .ok (.isub, 1) := dk_100 (dk_at dksX1_project_7 1 rfl rfl)
theorem dX1_project_165 : decode cX1_project 165 = .ok (.goto 4, 3) := dk_167 0 4 (dk_at dksX1_project_7 2 rfl rfl)
theorem dX1_project_168 : decode cX1_project 168 = .ok (.iload_n 2, 1) := dk_28 (dk_at dksX1_project_7 5 rfl rfl)
theorem dX1_project_169 : decode cX1_project 169 = .ok (.i2l, 1) := dk_133 (dk_at dksX1_project_7 6 rfl rfl)
theorem dX1_project_170 : decode cX1_project 170 = .ok (.lmul, 1) := dk_105 (dk_at dksX1_project_7 7 rfl rfl)
theorem dX1_project_171 : decode cX1_project 171 = .ok (.ladd, 1) := dk_97 (dk_at dksX1_project_7 8 rfl rfl)
theorem dX1_project_172 : decode cX1_project 172 = .ok (.l2i, 1) := dk_136 (dk_at dksX1_project_7 9 rfl rfl)
theorem dX1_project_173 : decode cX1_project 173 = .ok (.ireturn, 1) := dk_172 (dk_at dksX1_project_7 10 rfl rfl)
abbrev cX1_ifUse : ByteArray := prog_1_method_56_code
def yX1_ifUse : MethodName := ⟨RX1, "ifUse", "(II)I"⟩
def dkwX1_ifUse_3 : List UInt8 := [54, 5, 45, 21, 4, 181, 0, 226, 21, 5, 172]
abbrev dktX1_ifUse_3 : List UInt8 := dkwX1_ifUse_3 ++ []
def dkwX1_ifUse_2 : List UInt8 := [19, 1, 94, 172, 45, 180, 0, 226, 54, 4, 45, 28, 181, 0, 226, 42, 180, 0, 65, 45, 182, 1, 195]
abbrev dktX1_ifUse_2 : List UInt8 := dkwX1_ifUse_2 ++ dktX1_ifUse_3
def dkwX1_ifUse_1 : List UInt8 := [42, 180, 0, 65, 27, 182, 0, 222, 78, 45, 182, 1, 29, 153, 0, 11, 45, 180, 0, 238, 2, 160, 0, 7]
abbrev dktX1_ifUse_1 : List UInt8 := dkwX1_ifUse_1 ++ dktX1_ifUse_2
def dkwX1_ifUse_0 : List UInt8 := [42, 27, 182, 0, 219, 153, 0, 15, 28, 133, 9, 20, 1, 14, 184, 0, 96, 154, 0, 7, 19, 1, 94, 172]
abbrev dktX1_ifUse_0 : List UInt8 := dkwX1_ifUse_0 ++ dktX1_ifUse_1
theorem dksX1_ifUse_0 : cX1_ifUse.data.toList.drop 0 = dktX1_ifUse_0 := by decide +kernel
theorem dksX1_ifUse_1 : cX1_ifUse.data.toList.drop 24 = dktX1_ifUse_1 := dk_seg dksX1_ifUse_0 24 rfl rfl
theorem dksX1_ifUse_2 : cX1_ifUse.data.toList.drop 48 = dktX1_ifUse_2 := dk_seg dksX1_ifUse_1 24 rfl rfl
theorem dksX1_ifUse_3 : cX1_ifUse.data.toList.drop 71 = dktX1_ifUse_3 := dk_seg dksX1_ifUse_2 23 rfl rfl
theorem dX1_ifUse_0 : decode cX1_ifUse 0 = .ok (.aload_n 0, 1) := dk_42 (dk_at dksX1_ifUse_0 0 rfl rfl)
theorem dX1_ifUse_1 : decode cX1_ifUse 1 = .ok (.iload_n 1, 1) := dk_27 (dk_at dksX1_ifUse_0 1 rfl rfl)
theorem dX1_ifUse_2 : decode cX1_ifUse 2 = .ok (.invokevirtual 219, 3) := dk_182 0 219 (dk_at dksX1_ifUse_0 2 rfl rfl)
theorem dX1_ifUse_5 : decode cX1_ifUse 5 = .ok (.ifCond .eq 15, 3) := dk_153 0 15 (dk_at dksX1_ifUse_0 5 rfl rfl)
theorem dX1_ifUse_8 : decode cX1_ifUse 8 = .ok (.iload_n 2, 1) := dk_28 (dk_at dksX1_ifUse_0 8 rfl rfl)
theorem dX1_ifUse_9 : decode cX1_ifUse 9 = .ok (.i2l, 1) := dk_133 (dk_at dksX1_ifUse_0 9 rfl rfl)
theorem dX1_ifUse_10 : decode cX1_ifUse 10 = .ok (.lconst 0, 1) := dk_9 (dk_at dksX1_ifUse_0 10 rfl rfl)
theorem dX1_ifUse_11 : decode cX1_ifUse 11 = .ok (.ldc2_w 270, 3) := dk_20 1 14 (dk_at dksX1_ifUse_0 11 rfl rfl)
theorem dX1_ifUse_14 : decode cX1_ifUse 14 = .ok (.invokestatic 96, 3) := dk_184 0 96 (dk_at dksX1_ifUse_0 14 rfl rfl)
theorem dX1_ifUse_17 : decode cX1_ifUse 17 = .ok (.ifCond .ne 7, 3) := dk_154 0 7 (dk_at dksX1_ifUse_0 17 rfl rfl)
theorem dX1_ifUse_20 : decode cX1_ifUse 20 = .ok (.ldc_w 350, 3) := dk_19 1 94 (dk_at dksX1_ifUse_0 20 rfl rfl)
theorem dX1_ifUse_23 : decode cX1_ifUse 23 = .ok (.ireturn, 1) := dk_172 (dk_at dksX1_ifUse_0 23 rfl rfl)
theorem dX1_ifUse_24 : decode cX1_ifUse 24 = .ok (.aload_n 0, 1) := dk_42 (dk_at dksX1_ifUse_1 0 rfl rfl)
theorem dX1_ifUse_25 : decode cX1_ifUse 25 = .ok (.getfield 65, 3) := dk_180 0 65 (dk_at dksX1_ifUse_1 1 rfl rfl)
theorem dX1_ifUse_28 : decode cX1_ifUse 28 = .ok (.iload_n 1, 1) := dk_27 (dk_at dksX1_ifUse_1 4 rfl rfl)
theorem dX1_ifUse_29 : decode cX1_ifUse 29 = .ok (.invokevirtual 222, 3) := dk_182 0 222 (dk_at dksX1_ifUse_1 5 rfl rfl)
theorem dX1_ifUse_32 : decode cX1_ifUse 32 = .ok (.astore_n 3, 1) := dk_78 (dk_at dksX1_ifUse_1 8 rfl rfl)
theorem dX1_ifUse_33 : decode cX1_ifUse 33 = .ok (.aload_n 3, 1) := dk_45 (dk_at dksX1_ifUse_1 9 rfl rfl)
theorem dX1_ifUse_34 : decode cX1_ifUse 34 = .ok (.invokevirtual 285, 3) := dk_182 1 29 (dk_at dksX1_ifUse_1 10 rfl rfl)
theorem dX1_ifUse_37 : decode cX1_ifUse 37 = .ok (.ifCond .eq 11, 3) := dk_153 0 11 (dk_at dksX1_ifUse_1 13 rfl rfl)
theorem dX1_ifUse_40 : decode cX1_ifUse 40 = .ok (.aload_n 3, 1) := dk_45 (dk_at dksX1_ifUse_1 16 rfl rfl)
theorem dX1_ifUse_41 : decode cX1_ifUse 41 = .ok (.getfield 238, 3) := dk_180 0 238 (dk_at dksX1_ifUse_1 17 rfl rfl)
theorem dX1_ifUse_44 : decode cX1_ifUse 44 = .ok (.iconst (-1), 1) := dk_2 (dk_at dksX1_ifUse_1 20 rfl rfl)
theorem dX1_ifUse_45 : decode cX1_ifUse 45 = .ok (.if_icmp .ne 7, 3) := dk_160 0 7 (dk_at dksX1_ifUse_1 21 rfl rfl)
theorem dX1_ifUse_48 : decode cX1_ifUse 48 = .ok (.ldc_w 350, 3) := dk_19 1 94 (dk_at dksX1_ifUse_2 0 rfl rfl)
theorem dX1_ifUse_51 : decode cX1_ifUse 51 = .ok (.ireturn, 1) := dk_172 (dk_at dksX1_ifUse_2 3 rfl rfl)
theorem dX1_ifUse_52 : decode cX1_ifUse 52 = .ok (.aload_n 3, 1) := dk_45 (dk_at dksX1_ifUse_2 4 rfl rfl)
theorem dX1_ifUse_53 : decode cX1_ifUse 53 = .ok (.getfield 226, 3) := dk_180 0 226 (dk_at dksX1_ifUse_2 5 rfl rfl)
theorem dX1_ifUse_56 : decode cX1_ifUse 56 = .ok (.istore 4, 2) := dk_54 4 (dk_at dksX1_ifUse_2 8 rfl rfl)
theorem dX1_ifUse_58 : decode cX1_ifUse 58 = .ok (.aload_n 3, 1) := dk_45 (dk_at dksX1_ifUse_2 10 rfl rfl)
theorem dX1_ifUse_59 : decode cX1_ifUse 59 = .ok (.iload_n 2, 1) := dk_28 (dk_at dksX1_ifUse_2 11 rfl rfl)
theorem dX1_ifUse_60 : decode cX1_ifUse 60 = .ok (.putfield 226, 3) := dk_181 0 226 (dk_at dksX1_ifUse_2 12 rfl rfl)
theorem dX1_ifUse_63 : decode cX1_ifUse 63 = .ok (.aload_n 0, 1) := dk_42 (dk_at dksX1_ifUse_2 15 rfl rfl)
theorem dX1_ifUse_64 : decode cX1_ifUse 64 = .ok (.getfield 65, 3) := dk_180 0 65 (dk_at dksX1_ifUse_2 16 rfl rfl)
theorem dX1_ifUse_67 : decode cX1_ifUse 67 = .ok (.aload_n 3, 1) := dk_45 (dk_at dksX1_ifUse_2 19 rfl rfl)
theorem dX1_ifUse_68 : decode cX1_ifUse 68 = .ok (.invokevirtual 451, 3) := dk_182 1 195 (dk_at dksX1_ifUse_2 20 rfl rfl)
theorem dX1_ifUse_71 : decode cX1_ifUse 71 = .ok (.istore 5, 2) := dk_54 5 (dk_at dksX1_ifUse_3 0 rfl rfl)
theorem dX1_ifUse_73 : decode cX1_ifUse 73 = .ok (.aload_n 3, 1) := dk_45 (dk_at dksX1_ifUse_3 2 rfl rfl)
theorem dX1_ifUse_74 : decode cX1_ifUse 74 = .ok (.iload 4, 2) := dk_21 4 (dk_at dksX1_ifUse_3 3 rfl rfl)
theorem dX1_ifUse_76 : decode cX1_ifUse 76 = .ok (.putfield 226, 3) := dk_181 0 226 (dk_at dksX1_ifUse_3 5 rfl rfl)
theorem dX1_ifUse_79 : decode cX1_ifUse 79 = .ok (.iload 5, 2) := dk_21 5 (dk_at dksX1_ifUse_3 8 rfl rfl)
theorem dX1_ifUse_81 : decode cX1_ifUse 81 = .ok (.ireturn, 1) := dk_172 (dk_at dksX1_ifUse_3 10 rfl rfl)
abbrev cX1_owners : ByteArray := prog_1_method_57_code
def yX1_owners : MethodName := ⟨RX1, "owners", "(I)I"⟩
def dkwX1_owners_3 : List UInt8 := [180, 0, 154, 21, 5, 46, 182, 1, 209, 132, 5, 1, 167, 255, 235, 45, 182, 1, 212, 172]
abbrev dktX1_owners_3 : List UInt8 := dkwX1_owners_3 ++ []
def dkwX1_owners_2 : List UInt8 := [167, 0, 7, 42, 182, 0, 158, 54, 4, 44, 180, 1, 108, 54, 5, 21, 5, 21, 4, 163, 0, 20, 45, 44]
abbrev dktX1_owners_2 : List UInt8 := dkwX1_owners_2 ++ dktX1_owners_3
def dkwX1_owners_1 : List UInt8 := [183, 1, 208, 78, 44, 180, 0, 145, 153, 0, 17, 44, 180, 1, 108, 44, 180, 1, 105, 96, 4, 100]
abbrev dktX1_owners_1 : List UInt8 := dkwX1_owners_1 ++ dktX1_owners_2
def dkwX1_owners_0 : List UInt8 := [42, 27, 182, 0, 219, 154, 0, 5, 2, 172, 42, 180, 0, 65, 27, 182, 0, 222, 77, 187, 1, 206, 89]
abbrev dktX1_owners_0 : List UInt8 := dkwX1_owners_0 ++ dktX1_owners_1
theorem dksX1_owners_0 : cX1_owners.data.toList.drop 0 = dktX1_owners_0 := by decide +kernel
theorem dksX1_owners_1 : cX1_owners.data.toList.drop 23 = dktX1_owners_1 := dk_seg dksX1_owners_0 23 rfl rfl
theorem dksX1_owners_2 : cX1_owners.data.toList.drop 45 = dktX1_owners_2 := dk_seg dksX1_owners_1 22 rfl rfl
theorem dksX1_owners_3 : cX1_owners.data.toList.drop 69 = dktX1_owners_3 := dk_seg dksX1_owners_2 24 rfl rfl
theorem dX1_owners_0 : decode cX1_owners 0 = .ok (.aload_n 0, 1) := dk_42 (dk_at dksX1_owners_0 0 rfl rfl)
theorem dX1_owners_1 : decode cX1_owners 1 = .ok (.iload_n 1, 1) := dk_27 (dk_at dksX1_owners_0 1 rfl rfl)
theorem dX1_owners_2 : decode cX1_owners 2 = .ok (.invokevirtual 219, 3) := dk_182 0 219 (dk_at dksX1_owners_0 2 rfl rfl)
theorem dX1_owners_5 : decode cX1_owners 5 = .ok (.ifCond .ne 5, 3) := dk_154 0 5 (dk_at dksX1_owners_0 5 rfl rfl)
theorem dX1_owners_8 : decode cX1_owners 8 = .ok (.iconst (-1), 1) := dk_2 (dk_at dksX1_owners_0 8 rfl rfl)
theorem dX1_owners_9 : decode cX1_owners 9 = .ok (.ireturn, 1) := dk_172 (dk_at dksX1_owners_0 9 rfl rfl)
theorem dX1_owners_10 : decode cX1_owners 10 = .ok (.aload_n 0, 1) := dk_42 (dk_at dksX1_owners_0 10 rfl rfl)
theorem dX1_owners_11 : decode cX1_owners 11 = .ok (.getfield 65, 3) := dk_180 0 65 (dk_at dksX1_owners_0 11 rfl rfl)
theorem dX1_owners_14 : decode cX1_owners 14 = .ok (.iload_n 1, 1) := dk_27 (dk_at dksX1_owners_0 14 rfl rfl)
theorem dX1_owners_15 : decode cX1_owners 15 = .ok (.invokevirtual 222, 3) := dk_182 0 222 (dk_at dksX1_owners_0 15 rfl rfl)
theorem dX1_owners_18 : decode cX1_owners 18 = .ok (.astore_n 2, 1) := dk_77 (dk_at dksX1_owners_0 18 rfl rfl)
theorem dX1_owners_19 : decode cX1_owners 19 = .ok (.new 462, 3) := dk_187 1 206 (dk_at dksX1_owners_0 19 rfl rfl)
theorem dX1_owners_22 : decode cX1_owners 22 = .ok (.dup, 1) := dk_89 (dk_at dksX1_owners_0 22 rfl rfl)
theorem dX1_owners_23 : decode cX1_owners 23 = .ok (.invokespecial 464, 3) := dk_183 1 208 (dk_at dksX1_owners_1 0 rfl rfl)
theorem dX1_owners_26 : decode cX1_owners 26 = .ok (.astore_n 3, 1) := dk_78 (dk_at dksX1_owners_1 3 rfl rfl)
theorem dX1_owners_27 : decode cX1_owners 27 = .ok (.aload_n 2, 1) := dk_44 (dk_at dksX1_owners_1 4 rfl rfl)
theorem dX1_owners_28 : decode cX1_owners 28 = .ok (.getfield 145, 3) := dk_180 0 145 (dk_at dksX1_owners_1 5 rfl rfl)
theorem dX1_owners_31 : decode cX1_owners 31 = .ok (.ifCond .eq 17, 3) := dk_153 0 17 (dk_at dksX1_owners_1 8 rfl rfl)
theorem dX1_owners_34 : decode cX1_owners 34 = .ok (.aload_n 2, 1) := dk_44 (dk_at dksX1_owners_1 11 rfl rfl)
theorem dX1_owners_35 : decode cX1_owners 35 = .ok (.getfield 364, 3) := dk_180 1 108 (dk_at dksX1_owners_1 12 rfl rfl)
theorem dX1_owners_38 : decode cX1_owners 38 = .ok (.aload_n 2, 1) := dk_44 (dk_at dksX1_owners_1 15 rfl rfl)
theorem dX1_owners_39 : decode cX1_owners 39 = .ok (.getfield 361, 3) := dk_180 1 105 (dk_at dksX1_owners_1 16 rfl rfl)
theorem dX1_owners_42 : decode cX1_owners 42 = .ok (.iadd, 1) := dk_96 (dk_at dksX1_owners_1 19 rfl rfl)
theorem dX1_owners_43 : decode cX1_owners 43 = .ok (.iconst 1, 1) := dk_4 (dk_at dksX1_owners_1 20 rfl rfl)
theorem dX1_owners_44 : decode cX1_owners 44 = .ok (.isub, 1) := dk_100 (dk_at dksX1_owners_1 21 rfl rfl)
theorem dX1_owners_45 : decode cX1_owners 45 = .ok (.goto 7, 3) := dk_167 0 7 (dk_at dksX1_owners_2 0 rfl rfl)
theorem dX1_owners_48 : decode cX1_owners 48 = .ok (.aload_n 0, 1) := dk_42 (dk_at dksX1_owners_2 3 rfl rfl)
theorem dX1_owners_49 : decode cX1_owners 49 = .ok (.invokevirtual 158, 3) := dk_182 0 158 (dk_at dksX1_owners_2 4 rfl rfl)
theorem dX1_owners_52 : decode cX1_owners 52 = .ok (.istore 4, 2) := dk_54 4 (dk_at dksX1_owners_2 7 rfl rfl)
theorem dX1_owners_54 : decode cX1_owners 54 = .ok (.aload_n 2, 1) := dk_44 (dk_at dksX1_owners_2 9 rfl rfl)
theorem dX1_owners_55 : decode cX1_owners 55 = .ok (.getfield 364, 3) := dk_180 1 108 (dk_at dksX1_owners_2 10 rfl rfl)
theorem dX1_owners_58 : decode cX1_owners 58 = .ok (.istore 5, 2) := dk_54 5 (dk_at dksX1_owners_2 13 rfl rfl)
theorem dX1_owners_60 : decode cX1_owners 60 = .ok (.iload 5, 2) := dk_21 5 (dk_at dksX1_owners_2 15 rfl rfl)
theorem dX1_owners_62 : decode cX1_owners 62 = .ok (.iload 4, 2) := dk_21 4 (dk_at dksX1_owners_2 17 rfl rfl)
theorem dX1_owners_64 : decode cX1_owners 64 = .ok (.if_icmp .gt 20, 3) := dk_163 0 20 (dk_at dksX1_owners_2 19 rfl rfl)
theorem dX1_owners_67 : decode cX1_owners 67 = .ok (.aload_n 3, 1) := dk_45 (dk_at dksX1_owners_2 22 rfl rfl)
theorem dX1_owners_68 : decode cX1_owners 68 = .ok (.aload_n 2, 1) := dk_44 (dk_at dksX1_owners_2 23 rfl rfl)
theorem dX1_owners_69 : decode cX1_owners 69 = .ok (.getfield 154, 3) := dk_180 0 154 (dk_at dksX1_owners_3 0 rfl rfl)
theorem dX1_owners_72 : decode cX1_owners 72 = .ok (.iload 5, 2) := dk_21 5 (dk_at dksX1_owners_3 3 rfl rfl)
theorem dX1_owners_74 : decode cX1_owners 74 = .ok (.iaload, 1) := dk_46 (dk_at dksX1_owners_3 5 rfl rfl)
theorem dX1_owners_75 : decode cX1_owners 75 = .ok (.invokevirtual 465, 3) := dk_182 1 209 (dk_at dksX1_owners_3 6 rfl rfl)
theorem dX1_owners_78 : decode cX1_owners 78 = .ok (.iinc 5 1, 3) := dk_132 5 1 (dk_at dksX1_owners_3 9 rfl rfl)
theorem dX1_owners_81 : decode cX1_owners 81 = .ok (.goto (-21), 3) := dk_167 255 235 (dk_at dksX1_owners_3 12 rfl rfl)
theorem dX1_owners_84 : decode cX1_owners 84 = .ok (.aload_n 3, 1) := dk_45 (dk_at dksX1_owners_3 15 rfl rfl)
theorem dX1_owners_85 : decode cX1_owners 85 = .ok (.invokevirtual 468, 3) := dk_182 1 212 (dk_at dksX1_owners_3 16 rfl rfl)
theorem dX1_owners_88 : decode cX1_owners 88 = .ok (.ireturn, 1) := dk_172 (dk_at dksX1_owners_3 19 rfl rfl)
abbrev cX1_even : ByteArray := prog_1_method_58_code
def yX1_even : MethodName := ⟨RX1, "even", "(II)I"⟩
def dkwX1_even_5 : List UInt8 := [16, 254, 167, 0, 5, 21, 4, 172]
abbrev dktX1_even_5 : List UInt8 := dkwX1_even_5 ++ []
def dkwX1_even_4 : List UInt8 := [180, 0, 238, 2, 160, 0, 8, 16, 253, 167, 0, 22, 21, 4, 42, 180, 0, 54, 180, 1, 72, 164, 0, 8]
abbrev dktX1_even_4 : List UInt8 := dkwX1_even_4 ++ dktX1_even_5
def dkwX1_even_3 : List UInt8 := [42, 180, 0, 65, 182, 1, 75, 182, 1, 198, 28, 133, 148, 156, 0, 9, 132, 4, 1, 167, 255, 210, 45]
abbrev dktX1_even_3 : List UInt8 := dkwX1_even_3 ++ dktX1_even_4
def dkwX1_even_2 : List UInt8 := [180, 0, 54, 180, 1, 72, 163, 0, 40, 45, 21, 4, 45, 180, 0, 238, 4, 42, 180, 0, 54, 180, 1, 72]
abbrev dktX1_even_2 : List UInt8 := dkwX1_even_2 ++ dktX1_even_3
def dkwX1_even_1 : List UInt8 := [42, 180, 0, 65, 27, 182, 0, 222, 78, 3, 54, 4, 45, 180, 0, 238, 2, 159, 0, 52, 21, 4, 42]
abbrev dktX1_even_1 : List UInt8 := dkwX1_even_1 ++ dktX1_even_2
def dkwX1_even_0 : List UInt8 := [42, 27, 182, 0, 219, 153, 0, 17, 28, 133, 20, 1, 215, 20, 1, 2, 184, 0, 96, 154, 0, 5, 2, 172]
abbrev dktX1_even_0 : List UInt8 := dkwX1_even_0 ++ dktX1_even_1
theorem dksX1_even_0 : cX1_even.data.toList.drop 0 = dktX1_even_0 := by decide +kernel
theorem dksX1_even_1 : cX1_even.data.toList.drop 24 = dktX1_even_1 := dk_seg dksX1_even_0 24 rfl rfl
theorem dksX1_even_2 : cX1_even.data.toList.drop 47 = dktX1_even_2 := dk_seg dksX1_even_1 23 rfl rfl
theorem dksX1_even_3 : cX1_even.data.toList.drop 71 = dktX1_even_3 := dk_seg dksX1_even_2 24 rfl rfl
theorem dksX1_even_4 : cX1_even.data.toList.drop 94 = dktX1_even_4 := dk_seg dksX1_even_3 23 rfl rfl
theorem dksX1_even_5 : cX1_even.data.toList.drop 118 = dktX1_even_5 := dk_seg dksX1_even_4 24 rfl rfl
theorem dX1_even_0 : decode cX1_even 0 = .ok (.aload_n 0, 1) := dk_42 (dk_at dksX1_even_0 0 rfl rfl)
theorem dX1_even_1 : decode cX1_even 1 = .ok (.iload_n 1, 1) := dk_27 (dk_at dksX1_even_0 1 rfl rfl)
theorem dX1_even_2 : decode cX1_even 2 = .ok (.invokevirtual 219, 3) := dk_182 0 219 (dk_at dksX1_even_0 2 rfl rfl)
theorem dX1_even_5 : decode cX1_even 5 = .ok (.ifCond .eq 17, 3) := dk_153 0 17 (dk_at dksX1_even_0 5 rfl rfl)
theorem dX1_even_8 : decode cX1_even 8 = .ok (.iload_n 2, 1) := dk_28 (dk_at dksX1_even_0 8 rfl rfl)
theorem dX1_even_9 : decode cX1_even 9 = .ok (.i2l, 1) := dk_133 (dk_at dksX1_even_0 9 rfl rfl)
theorem dX1_even_10 : decode cX1_even 10 = .ok (.ldc2_w 471, 3) := dk_20 1 215 (dk_at dksX1_even_0 10 rfl rfl)
theorem dX1_even_13 : decode cX1_even 13 = .ok (.ldc2_w 258, 3) := dk_20 1 2 (dk_at dksX1_even_0 13 rfl rfl)
theorem dX1_even_16 : decode cX1_even 16 = .ok (.invokestatic 96, 3) := dk_184 0 96 (dk_at dksX1_even_0 16 rfl rfl)
theorem dX1_even_19 : decode cX1_even 19 = .ok (.ifCond .ne 5, 3) := dk_154 0 5 (dk_at dksX1_even_0 19 rfl rfl)
theorem dX1_even_22 : decode cX1_even 22 = .ok (.iconst (-1), 1) := dk_2 (dk_at dksX1_even_0 22 rfl rfl)
theorem dX1_even_23 : decode cX1_even 23 = .ok (.ireturn, 1) := dk_172 (dk_at dksX1_even_0 23 rfl rfl)
theorem dX1_even_24 : decode cX1_even 24 = .ok (.aload_n 0, 1) := dk_42 (dk_at dksX1_even_1 0 rfl rfl)
theorem dX1_even_25 : decode cX1_even 25 = .ok (.getfield 65, 3) := dk_180 0 65 (dk_at dksX1_even_1 1 rfl rfl)
theorem dX1_even_28 : decode cX1_even 28 = .ok (.iload_n 1, 1) := dk_27 (dk_at dksX1_even_1 4 rfl rfl)
theorem dX1_even_29 : decode cX1_even 29 = .ok (.invokevirtual 222, 3) := dk_182 0 222 (dk_at dksX1_even_1 5 rfl rfl)
theorem dX1_even_32 : decode cX1_even 32 = .ok (.astore_n 3, 1) := dk_78 (dk_at dksX1_even_1 8 rfl rfl)
theorem dX1_even_33 : decode cX1_even 33 = .ok (.iconst 0, 1) := dk_3 (dk_at dksX1_even_1 9 rfl rfl)
theorem dX1_even_34 : decode cX1_even 34 = .ok (.istore 4, 2) := dk_54 4 (dk_at dksX1_even_1 10 rfl rfl)
theorem dX1_even_36 : decode cX1_even 36 = .ok (.aload_n 3, 1) := dk_45 (dk_at dksX1_even_1 12 rfl rfl)
theorem dX1_even_37 : decode cX1_even 37 = .ok (.getfield 238, 3) := dk_180 0 238 (dk_at dksX1_even_1 13 rfl rfl)
theorem dX1_even_40 : decode cX1_even 40 = .ok (.iconst (-1), 1) := dk_2 (dk_at dksX1_even_1 16 rfl rfl)
theorem dX1_even_41 : decode cX1_even 41 = .ok (.if_icmp .eq 52, 3) := dk_159 0 52 (dk_at dksX1_even_1 17 rfl rfl)
theorem dX1_even_44 : decode cX1_even 44 = .ok (.iload 4, 2) := dk_21 4 (dk_at dksX1_even_1 20 rfl rfl)
theorem dX1_even_46 : decode cX1_even 46 = .ok (.aload_n 0, 1) := dk_42 (dk_at dksX1_even_1 22 rfl rfl)
theorem dX1_even_47 : decode cX1_even 47 = .ok (.getfield 54, 3) := dk_180 0 54 (dk_at dksX1_even_2 0 rfl rfl)
theorem dX1_even_50 : decode cX1_even 50 = .ok (.getfield 328, 3) := dk_180 1 72 (dk_at dksX1_even_2 3 rfl rfl)
theorem dX1_even_53 : decode cX1_even 53 = .ok (.if_icmp .gt 40, 3) := dk_163 0 40 (dk_at dksX1_even_2 6 rfl rfl)
theorem dX1_even_56 : decode cX1_even 56 = .ok (.aload_n 3, 1) := dk_45 (dk_at dksX1_even_2 9 rfl rfl)
theorem dX1_even_57 : decode cX1_even 57 = .ok (.iload 4, 2) := dk_21 4 (dk_at dksX1_even_2 10 rfl rfl)
theorem dX1_even_59 : decode cX1_even 59 = .ok (.aload_n 3, 1) := dk_45 (dk_at dksX1_even_2 12 rfl rfl)
theorem dX1_even_60 : decode cX1_even 60 = .ok (.getfield 238, 3) := dk_180 0 238 (dk_at dksX1_even_2 13 rfl rfl)
theorem dX1_even_63 : decode cX1_even 63 = .ok (.iconst 1, 1) := dk_4 (dk_at dksX1_even_2 16 rfl rfl)
theorem dX1_even_64 : decode cX1_even 64 = .ok (.aload_n 0, 1) := dk_42 (dk_at dksX1_even_2 17 rfl rfl)
theorem dX1_even_65 : decode cX1_even 65 = .ok (.getfield 54, 3) := dk_180 0 54 (dk_at dksX1_even_2 18 rfl rfl)
theorem dX1_even_68 : decode cX1_even 68 = .ok (.getfield 328, 3) := dk_180 1 72 (dk_at dksX1_even_2 21 rfl rfl)
theorem dX1_even_71 : decode cX1_even 71 = .ok (.aload_n 0, 1) := dk_42 (dk_at dksX1_even_3 0 rfl rfl)
theorem dX1_even_72 : decode cX1_even 72 = .ok (.getfield 65, 3) := dk_180 0 65 (dk_at dksX1_even_3 1 rfl rfl)
theorem dX1_even_75 : decode cX1_even 75 = .ok (.invokevirtual 331, 3) := dk_182 1 75 (dk_at dksX1_even_3 4 rfl rfl)
theorem dX1_even_78 : decode cX1_even 78 = .ok (.invokevirtual 454, 3) := dk_182 1 198 (dk_at dksX1_even_3 7 rfl rfl)
theorem dX1_even_81 : decode cX1_even 81 = .ok (.iload_n 2, 1) := dk_28 (dk_at dksX1_even_3 10 rfl rfl)
theorem dX1_even_82 : decode cX1_even 82 = .ok (.i2l, 1) := dk_133 (dk_at dksX1_even_3 11 rfl rfl)
theorem dX1_even_83 : decode cX1_even 83 = .ok (.lcmp, 1) := dk_148 (dk_at dksX1_even_3 12 rfl rfl)
theorem dX1_even_84 : decode cX1_even 84 = .ok (.ifCond .ge 9, 3) := dk_156 0 9 (dk_at dksX1_even_3 13 rfl rfl)
theorem dX1_even_87 : decode cX1_even 87 = .ok (.iinc 4 1, 3) := dk_132 4 1 (dk_at dksX1_even_3 16 rfl rfl)
theorem dX1_even_90 : decode cX1_even 90 = .ok (.goto (-46), 3) := dk_167 255 210 (dk_at dksX1_even_3 19 rfl rfl)
theorem dX1_even_93 : decode cX1_even 93 = .ok (.aload_n 3, 1) := dk_45 (dk_at dksX1_even_3 22 rfl rfl)
theorem dX1_even_94 : decode cX1_even 94 = .ok (.getfield 238, 3) := dk_180 0 238 (dk_at dksX1_even_4 0 rfl rfl)
theorem dX1_even_97 : decode cX1_even 97 = .ok (.iconst (-1), 1) := dk_2 (dk_at dksX1_even_4 3 rfl rfl)
theorem dX1_even_98 : decode cX1_even 98 = .ok (.if_icmp .ne 8, 3) := dk_160 0 8 (dk_at dksX1_even_4 4 rfl rfl)
theorem dX1_even_101 : decode cX1_even 101 = .ok (.bipush (-3), 2) := dk_16 253 (dk_at dksX1_even_4 7 rfl rfl)
theorem dX1_even_103 : decode cX1_even 103 = .ok (.goto 22, 3) := dk_167 0 22 (dk_at dksX1_even_4 9 rfl rfl)
theorem dX1_even_106 : decode cX1_even 106 = .ok (.iload 4, 2) := dk_21 4 (dk_at dksX1_even_4 12 rfl rfl)
theorem dX1_even_108 : decode cX1_even 108 = .ok (.aload_n 0, 1) := dk_42 (dk_at dksX1_even_4 14 rfl rfl)
theorem dX1_even_109 : decode cX1_even 109 = .ok (.getfield 54, 3) := dk_180 0 54 (dk_at dksX1_even_4 15 rfl rfl)
theorem dX1_even_112 : decode cX1_even 112 = .ok (.getfield 328, 3) := dk_180 1 72 (dk_at dksX1_even_4 18 rfl rfl)
theorem dX1_even_115 : decode cX1_even 115 = .ok (.if_icmp .le 8, 3) := dk_164 0 8 (dk_at dksX1_even_4 21 rfl rfl)
theorem dX1_even_118 : decode cX1_even 118 = .ok (.bipush (-2), 2) := dk_16 254 (dk_at dksX1_even_5 0 rfl rfl)
theorem dX1_even_120 : decode cX1_even 120 = .ok (.goto 5, 3) := dk_167 0 5 (dk_at dksX1_even_5 2 rfl rfl)
theorem dX1_even_123 : decode cX1_even 123 = .ok (.iload 4, 2) := dk_21 4 (dk_at dksX1_even_5 5 rfl rfl)
theorem dX1_even_125 : decode cX1_even 125 = .ok (.ireturn, 1) := dk_172 (dk_at dksX1_even_5 7 rfl rfl)
abbrev cX1_worth : ByteArray := prog_1_method_59_code
def yX1_worth : MethodName := ⟨RX1, "worth", "(I)I"⟩
def dkwX1_worth_1 : List UInt8 := [153, 0, 8, 16, 254, 167, 0, 11, 42, 180, 0, 65, 44, 182, 1, 195, 172]
abbrev dktX1_worth_1 : List UInt8 := dkwX1_worth_1 ++ []
def dkwX1_worth_0 : List UInt8 := [42, 27, 182, 0, 219, 154, 0, 5, 2, 172, 42, 180, 0, 65, 27, 182, 0, 222, 77, 44, 180, 0, 145]
abbrev dktX1_worth_0 : List UInt8 := dkwX1_worth_0 ++ dktX1_worth_1
theorem dksX1_worth_0 : cX1_worth.data.toList.drop 0 = dktX1_worth_0 := by decide +kernel
theorem dksX1_worth_1 : cX1_worth.data.toList.drop 23 = dktX1_worth_1 := dk_seg dksX1_worth_0 23 rfl rfl
theorem dX1_worth_0 : decode cX1_worth 0 = .ok (.aload_n 0, 1) := dk_42 (dk_at dksX1_worth_0 0 rfl rfl)
theorem dX1_worth_1 : decode cX1_worth 1 = .ok (.iload_n 1, 1) := dk_27 (dk_at dksX1_worth_0 1 rfl rfl)
theorem dX1_worth_2 : decode cX1_worth 2 = .ok (.invokevirtual 219, 3) := dk_182 0 219 (dk_at dksX1_worth_0 2 rfl rfl)
theorem dX1_worth_5 : decode cX1_worth 5 = .ok (.ifCond .ne 5, 3) := dk_154 0 5 (dk_at dksX1_worth_0 5 rfl rfl)
theorem dX1_worth_8 : decode cX1_worth 8 = .ok (.iconst (-1), 1) := dk_2 (dk_at dksX1_worth_0 8 rfl rfl)
theorem dX1_worth_9 : decode cX1_worth 9 = .ok (.ireturn, 1) := dk_172 (dk_at dksX1_worth_0 9 rfl rfl)
theorem dX1_worth_10 : decode cX1_worth 10 = .ok (.aload_n 0, 1) := dk_42 (dk_at dksX1_worth_0 10 rfl rfl)
theorem dX1_worth_11 : decode cX1_worth 11 = .ok (.getfield 65, 3) := dk_180 0 65 (dk_at dksX1_worth_0 11 rfl rfl)
theorem dX1_worth_14 : decode cX1_worth 14 = .ok (.iload_n 1, 1) := dk_27 (dk_at dksX1_worth_0 14 rfl rfl)
theorem dX1_worth_15 : decode cX1_worth 15 = .ok (.invokevirtual 222, 3) := dk_182 0 222 (dk_at dksX1_worth_0 15 rfl rfl)
theorem dX1_worth_18 : decode cX1_worth 18 = .ok (.astore_n 2, 1) := dk_77 (dk_at dksX1_worth_0 18 rfl rfl)
theorem dX1_worth_19 : decode cX1_worth 19 = .ok (.aload_n 2, 1) := dk_44 (dk_at dksX1_worth_0 19 rfl rfl)
theorem dX1_worth_20 : decode cX1_worth 20 = .ok (.getfield 145, 3) := dk_180 0 145 (dk_at dksX1_worth_0 20 rfl rfl)
theorem dX1_worth_23 : decode cX1_worth 23 = .ok (.ifCond .eq 8, 3) := dk_153 0 8 (dk_at dksX1_worth_1 0 rfl rfl)
theorem dX1_worth_26 : decode cX1_worth 26 = .ok (.bipush (-2), 2) := dk_16 254 (dk_at dksX1_worth_1 3 rfl rfl)
theorem dX1_worth_28 : decode cX1_worth 28 = .ok (.goto 11, 3) := dk_167 0 11 (dk_at dksX1_worth_1 5 rfl rfl)
theorem dX1_worth_31 : decode cX1_worth 31 = .ok (.aload_n 0, 1) := dk_42 (dk_at dksX1_worth_1 8 rfl rfl)
theorem dX1_worth_32 : decode cX1_worth 32 = .ok (.getfield 65, 3) := dk_180 0 65 (dk_at dksX1_worth_1 9 rfl rfl)
theorem dX1_worth_35 : decode cX1_worth 35 = .ok (.aload_n 2, 1) := dk_44 (dk_at dksX1_worth_1 12 rfl rfl)
theorem dX1_worth_36 : decode cX1_worth 36 = .ok (.invokevirtual 451, 3) := dk_182 1 195 (dk_at dksX1_worth_1 13 rfl rfl)
theorem dX1_worth_39 : decode cX1_worth 39 = .ok (.ireturn, 1) := dk_172 (dk_at dksX1_worth_1 16 rfl rfl)
abbrev cX1_tried : ByteArray := prog_1_method_60_code
def yX1_tried : MethodName := ⟨RX1, "tried", "(III)I"⟩
def dkwX1_tried_4 : List UInt8 := [180, 0, 65, 180, 1, 135, 28, 50, 29, 46, 100, 172]
abbrev dktX1_tried_4 : List UInt8 := dkwX1_tried_4 ++ []
def dkwX1_tried_3 : List UInt8 := [182, 1, 48, 87, 132, 4, 1, 167, 255, 239, 42, 180, 0, 69, 180, 1, 135, 28, 50, 29, 46, 42]
abbrev dktX1_tried_3 : List UInt8 := dkwX1_tried_3 ++ dktX1_tried_4
def dkwX1_tried_2 : List UInt8 := [180, 0, 69, 42, 180, 0, 65, 182, 0, 250, 87, 3, 54, 4, 21, 4, 27, 162, 0, 17, 42, 180, 0, 69]
abbrev dktX1_tried_2 : List UInt8 := dkwX1_tried_2 ++ dktX1_tried_3
def dkwX1_tried_1 : List UInt8 := [20, 1, 103, 184, 0, 96, 153, 0, 11, 42, 27, 182, 1, 42, 154, 0, 7, 19, 1, 94, 172, 42]
abbrev dktX1_tried_1 : List UInt8 := dkwX1_tried_1 ++ dktX1_tried_2
def dkwX1_tried_0 : List UInt8 := [27, 133, 10, 20, 1, 40, 184, 0, 96, 153, 0, 31, 42, 28, 182, 0, 185, 153, 0, 23, 29, 133, 9]
abbrev dktX1_tried_0 : List UInt8 := dkwX1_tried_0 ++ dktX1_tried_1
theorem dksX1_tried_0 : cX1_tried.data.toList.drop 0 = dktX1_tried_0 := by decide +kernel
theorem dksX1_tried_1 : cX1_tried.data.toList.drop 23 = dktX1_tried_1 := dk_seg dksX1_tried_0 23 rfl rfl
theorem dksX1_tried_2 : cX1_tried.data.toList.drop 45 = dktX1_tried_2 := dk_seg dksX1_tried_1 22 rfl rfl
theorem dksX1_tried_3 : cX1_tried.data.toList.drop 69 = dktX1_tried_3 := dk_seg dksX1_tried_2 24 rfl rfl
theorem dksX1_tried_4 : cX1_tried.data.toList.drop 91 = dktX1_tried_4 := dk_seg dksX1_tried_3 22 rfl rfl
theorem dX1_tried_0 : decode cX1_tried 0 = .ok (.iload_n 1, 1) := dk_27 (dk_at dksX1_tried_0 0 rfl rfl)
theorem dX1_tried_1 : decode cX1_tried 1 = .ok (.i2l, 1) := dk_133 (dk_at dksX1_tried_0 1 rfl rfl)
theorem dX1_tried_2 : decode cX1_tried 2 = .ok (.lconst 1, 1) := dk_10 (dk_at dksX1_tried_0 2 rfl rfl)
theorem dX1_tried_3 : decode cX1_tried 3 = .ok (.ldc2_w 296, 3) := dk_20 1 40 (dk_at dksX1_tried_0 3 rfl rfl)
theorem dX1_tried_6 : decode cX1_tried 6 = .ok (.invokestatic 96, 3) := dk_184 0 96 (dk_at dksX1_tried_0 6 rfl rfl)
theorem dX1_tried_9 : decode cX1_tried 9 = .ok (.ifCond .eq 31, 3) := dk_153 0 31 (dk_at dksX1_tried_0 9 rfl rfl)
theorem dX1_tried_12 : decode cX1_tried 12 = .ok (.aload_n 0, 1) := dk_42 (dk_at dksX1_tried_0 12 rfl rfl)
theorem dX1_tried_13 : decode cX1_tried 13 = .ok (.iload_n 2, 1) := dk_28 (dk_at dksX1_tried_0 13 rfl rfl)
theorem dX1_tried_14 : decode cX1_tried 14 = .ok (.invokevirtual 185, 3) := dk_182 0 185 (dk_at dksX1_tried_0 14 rfl rfl)
theorem dX1_tried_17 : decode cX1_tried 17 = .ok (.ifCond .eq 23, 3) := dk_153 0 23 (dk_at dksX1_tried_0 17 rfl rfl)
theorem dX1_tried_20 : decode cX1_tried 20 = .ok (.iload_n 3, 1) := dk_29 (dk_at dksX1_tried_0 20 rfl rfl)
theorem dX1_tried_21 : decode cX1_tried 21 = .ok (.i2l, 1) := dk_133 (dk_at dksX1_tried_0 21 rfl rfl)
theorem dX1_tried_22 : decode cX1_tried 22 = .ok (.lconst 0, 1) := dk_9 (dk_at dksX1_tried_0 22 rfl rfl)
theorem dX1_tried_23 : decode cX1_tried 23 = .ok (.ldc2_w 359, 3) := dk_20 1 103 (dk_at dksX1_tried_1 0 rfl rfl)
theorem dX1_tried_26 : decode cX1_tried 26 = .ok (.invokestatic 96, 3) := dk_184 0 96 (dk_at dksX1_tried_1 3 rfl rfl)
theorem dX1_tried_29 : decode cX1_tried 29 = .ok (.ifCond .eq 11, 3) := dk_153 0 11 (dk_at dksX1_tried_1 6 rfl rfl)
theorem dX1_tried_32 : decode cX1_tried 32 = .ok (.aload_n 0, 1) := dk_42 (dk_at dksX1_tried_1 9 rfl rfl)
theorem dX1_tried_33 : decode cX1_tried 33 = .ok (.iload_n 1, 1) := dk_27 (dk_at dksX1_tried_1 10 rfl rfl)
theorem dX1_tried_34 : decode cX1_tried 34 = .ok (.invokevirtual 298, 3) := dk_182 1 42 (dk_at dksX1_tried_1 11 rfl rfl)
theorem dX1_tried_37 : decode cX1_tried 37 = .ok (.ifCond .ne 7, 3) := dk_154 0 7 (dk_at dksX1_tried_1 14 rfl rfl)
theorem dX1_tried_40 : decode cX1_tried 40 = .ok (.ldc_w 350, 3) := dk_19 1 94 (dk_at dksX1_tried_1 17 rfl rfl)
theorem dX1_tried_43 : decode cX1_tried 43 = .ok (.ireturn, 1) := dk_172 (dk_at dksX1_tried_1 20 rfl rfl)
theorem dX1_tried_44 : decode cX1_tried 44 = .ok (.aload_n 0, 1) := dk_42 (dk_at dksX1_tried_1 21 rfl rfl)
theorem dX1_tried_45 : decode cX1_tried 45 = .ok (.getfield 69, 3) := dk_180 0 69 (dk_at dksX1_tried_2 0 rfl rfl)
theorem dX1_tried_48 : decode cX1_tried 48 = .ok (.aload_n 0, 1) := dk_42 (dk_at dksX1_tried_2 3 rfl rfl)
theorem dX1_tried_49 : decode cX1_tried 49 = .ok (.getfield 65, 3) := dk_180 0 65 (dk_at dksX1_tried_2 4 rfl rfl)
theorem dX1_tried_52 : decode cX1_tried 52 = .ok (.invokevirtual 250, 3) := dk_182 0 250 (dk_at dksX1_tried_2 7 rfl rfl)
theorem dX1_tried_55 : decode cX1_tried 55 = .ok (.pop, 1) := dk_87 (dk_at dksX1_tried_2 10 rfl rfl)
theorem dX1_tried_56 : decode cX1_tried 56 = .ok (.iconst 0, 1) := dk_3 (dk_at dksX1_tried_2 11 rfl rfl)
theorem dX1_tried_57 : decode cX1_tried 57 = .ok (.istore 4, 2) := dk_54 4 (dk_at dksX1_tried_2 12 rfl rfl)
theorem dX1_tried_59 : decode cX1_tried 59 = .ok (.iload 4, 2) := dk_21 4 (dk_at dksX1_tried_2 14 rfl rfl)
theorem dX1_tried_61 : decode cX1_tried 61 = .ok (.iload_n 1, 1) := dk_27 (dk_at dksX1_tried_2 16 rfl rfl)
theorem dX1_tried_62 : decode cX1_tried 62 = .ok (.if_icmp .ge 17, 3) := dk_162 0 17 (dk_at dksX1_tried_2 17 rfl rfl)
theorem dX1_tried_65 : decode cX1_tried 65 = .ok (.aload_n 0, 1) := dk_42 (dk_at dksX1_tried_2 20 rfl rfl)
theorem dX1_tried_66 : decode cX1_tried 66 = .ok (.getfield 69, 3) := dk_180 0 69 (dk_at dksX1_tried_2 21 rfl rfl)
theorem dX1_tried_69 : decode cX1_tried 69 = .ok (.invokevirtual 304, 3) := dk_182 1 48 (dk_at dksX1_tried_3 0 rfl rfl)
theorem dX1_tried_72 : decode cX1_tried 72 = .ok (.pop, 1) := dk_87 (dk_at dksX1_tried_3 3 rfl rfl)
theorem dX1_tried_73 : decode cX1_tried 73 = .ok (.iinc 4 1, 3) := dk_132 4 1 (dk_at dksX1_tried_3 4 rfl rfl)
theorem dX1_tried_76 : decode cX1_tried 76 = .ok (.goto (-17), 3) := dk_167 255 239 (dk_at dksX1_tried_3 7 rfl rfl)
theorem dX1_tried_79 : decode cX1_tried 79 = .ok (.aload_n 0, 1) := dk_42 (dk_at dksX1_tried_3 10 rfl rfl)
theorem dX1_tried_80 : decode cX1_tried 80 = .ok (.getfield 69, 3) := dk_180 0 69 (dk_at dksX1_tried_3 11 rfl rfl)
theorem dX1_tried_83 : decode cX1_tried 83 = .ok (.getfield 391, 3) := dk_180 1 135 (dk_at dksX1_tried_3 14 rfl rfl)
theorem dX1_tried_86 : decode cX1_tried 86 = .ok (.iload_n 2, 1) := dk_28 (dk_at dksX1_tried_3 17 rfl rfl)
theorem dX1_tried_87 : decode cX1_tried 87 = .ok (.aaload, 1) := dk_50 (dk_at dksX1_tried_3 18 rfl rfl)
theorem dX1_tried_88 : decode cX1_tried 88 = .ok (.iload_n 3, 1) := dk_29 (dk_at dksX1_tried_3 19 rfl rfl)
theorem dX1_tried_89 : decode cX1_tried 89 = .ok (.iaload, 1) := dk_46 (dk_at dksX1_tried_3 20 rfl rfl)
theorem dX1_tried_90 : decode cX1_tried 90 = .ok (.aload_n 0, 1) := dk_42 (dk_at dksX1_tried_3 21 rfl rfl)
theorem dX1_tried_91 : decode cX1_tried 91 = .ok (.getfield 65, 3) := dk_180 0 65 (dk_at dksX1_tried_4 0 rfl rfl)
theorem dX1_tried_94 : decode cX1_tried 94 = .ok (.getfield 391, 3) := dk_180 1 135 (dk_at dksX1_tried_4 3 rfl rfl)
theorem dX1_tried_97 : decode cX1_tried 97 = .ok (.iload_n 2, 1) := dk_28 (dk_at dksX1_tried_4 6 rfl rfl)
theorem dX1_tried_98 : decode cX1_tried 98 = .ok (.aaload, 1) := dk_50 (dk_at dksX1_tried_4 7 rfl rfl)
theorem dX1_tried_99 : decode cX1_tried 99 = .ok (.iload_n 3, 1) := dk_29 (dk_at dksX1_tried_4 8 rfl rfl)
theorem dX1_tried_100 : decode cX1_tried 100 = .ok (.iaload, 1) := dk_46 (dk_at dksX1_tried_4 9 rfl rfl)
theorem dX1_tried_101 : decode cX1_tried 101 = .ok (.isub, 1) := dk_100 (dk_at dksX1_tried_4 10 rfl rfl)
theorem dX1_tried_102 : decode cX1_tried 102 = .ok (.ireturn, 1) := dk_172 (dk_at dksX1_tried_4 11 rfl rfl)
abbrev cX1_chance : ByteArray := prog_1_method_62_code
def yX1_chance : MethodName := ⟨RX1, "chance", "(III)I"⟩
def dkwX1_chance_8 : List UInt8 := [167, 255, 217, 21, 4, 172]
abbrev dktX1_chance_8 : List UInt8 := dkwX1_chance_8 ++ []
def dkwX1_chance_7 : List UInt8 := [29, 50, 21, 5, 46, 42, 180, 0, 65, 180, 1, 135, 29, 50, 21, 5, 46, 100, 96, 54, 4, 132, 5, 1]
abbrev dktX1_chance_7 : List UInt8 := dkwX1_chance_7 ++ dktX1_chance_8
def dkwX1_chance_6 : List UInt8 := [167, 255, 190, 3, 54, 4, 3, 54, 5, 21, 5, 7, 162, 0, 39, 21, 4, 42, 180, 0, 69, 180, 1, 135]
abbrev dktX1_chance_6 : List UInt8 := dkwX1_chance_6 ++ dktX1_chance_7
def dkwX1_chance_5 : List UInt8 := [182, 1, 227, 133, 97, 80, 132, 5, 1, 167, 255, 213, 42, 180, 0, 69, 182, 1, 48, 87, 132, 4, 1]
abbrev dktX1_chance_5 : List UInt8 := dkwX1_chance_5 ++ dktX1_chance_6
def dkwX1_chance_4 : List UInt8 := [180, 1, 7, 29, 50, 42, 180, 0, 69, 180, 0, 142, 50, 180, 1, 11, 21, 5, 92, 47, 42, 17, 3, 232]
abbrev dktX1_chance_4 : List UInt8 := dkwX1_chance_4 ++ dktX1_chance_5
def dkwX1_chance_3 : List UInt8 := [87, 3, 54, 4, 21, 4, 28, 162, 0, 66, 3, 54, 5, 21, 5, 5, 162, 0, 43, 42, 180, 0, 69]
abbrev dktX1_chance_3 : List UInt8 := dkwX1_chance_3 ++ dktX1_chance_4
def dkwX1_chance_2 : List UInt8 := [180, 0, 54, 180, 1, 224, 167, 0, 4, 27, 181, 1, 217, 42, 180, 0, 69, 42, 180, 0, 65, 182, 0, 250]
abbrev dktX1_chance_2 : List UInt8 := dkwX1_chance_2 ++ dktX1_chance_3
def dkwX1_chance_1 : List UInt8 := [153, 0, 11, 42, 28, 182, 1, 42, 154, 0, 7, 19, 1, 94, 172, 42, 27, 2, 160, 0, 13, 42]
abbrev dktX1_chance_1 : List UInt8 := dkwX1_chance_1 ++ dktX1_chance_2
def dkwX1_chance_0 : List UInt8 := [27, 2, 161, 0, 31, 28, 133, 10, 20, 1, 222, 184, 0, 96, 153, 0, 19, 42, 29, 182, 0, 185]
abbrev dktX1_chance_0 : List UInt8 := dkwX1_chance_0 ++ dktX1_chance_1
theorem dksX1_chance_0 : cX1_chance.data.toList.drop 0 = dktX1_chance_0 := by decide +kernel
theorem dksX1_chance_1 : cX1_chance.data.toList.drop 22 = dktX1_chance_1 := dk_seg dksX1_chance_0 22 rfl rfl
theorem dksX1_chance_2 : cX1_chance.data.toList.drop 44 = dktX1_chance_2 := dk_seg dksX1_chance_1 22 rfl rfl
theorem dksX1_chance_3 : cX1_chance.data.toList.drop 68 = dktX1_chance_3 := dk_seg dksX1_chance_2 24 rfl rfl
theorem dksX1_chance_4 : cX1_chance.data.toList.drop 91 = dktX1_chance_4 := dk_seg dksX1_chance_3 23 rfl rfl
theorem dksX1_chance_5 : cX1_chance.data.toList.drop 115 = dktX1_chance_5 := dk_seg dksX1_chance_4 24 rfl rfl
theorem dksX1_chance_6 : cX1_chance.data.toList.drop 138 = dktX1_chance_6 := dk_seg dksX1_chance_5 23 rfl rfl
theorem dksX1_chance_7 : cX1_chance.data.toList.drop 162 = dktX1_chance_7 := dk_seg dksX1_chance_6 24 rfl rfl
theorem dksX1_chance_8 : cX1_chance.data.toList.drop 186 = dktX1_chance_8 := dk_seg dksX1_chance_7 24 rfl rfl
theorem dX1_chance_0 : decode cX1_chance 0 = .ok (.iload_n 1, 1) := dk_27 (dk_at dksX1_chance_0 0 rfl rfl)
theorem dX1_chance_1 : decode cX1_chance 1 = .ok (.iconst (-1), 1) := dk_2 (dk_at dksX1_chance_0 1 rfl rfl)
theorem dX1_chance_2 : decode cX1_chance 2 = .ok (.if_icmp .lt 31, 3) := dk_161 0 31 (dk_at dksX1_chance_0 2 rfl rfl)
theorem dX1_chance_5 : decode cX1_chance 5 = .ok (.iload_n 2, 1) := dk_28 (dk_at dksX1_chance_0 5 rfl rfl)
theorem dX1_chance_6 : decode cX1_chance 6 = .ok (.i2l, 1) := dk_133 (dk_at dksX1_chance_0 6 rfl rfl)
theorem dX1_chance_7 : decode cX1_chance 7 = .ok (.lconst 1, 1) := dk_10 (dk_at dksX1_chance_0 7 rfl rfl)
theorem dX1_chance_8 : decode cX1_chance 8 = .ok (.ldc2_w 478, 3) := dk_20 1 222 (dk_at dksX1_chance_0 8 rfl rfl)
theorem dX1_chance_11 : decode cX1_chance 11 = .ok (.invokestatic 96, 3) := dk_184 0 96 (dk_at dksX1_chance_0 11 rfl rfl)
theorem dX1_chance_14 : decode cX1_chance 14 = .ok (.ifCond .eq 19, 3) := dk_153 0 19 (dk_at dksX1_chance_0 14 rfl rfl)
theorem dX1_chance_17 : decode cX1_chance 17 = .ok (.aload_n 0, 1) := dk_42 (dk_at dksX1_chance_0 17 rfl rfl)
theorem dX1_chance_18 : decode cX1_chance 18 = .ok (.iload_n 3, 1) := dk_29 (dk_at dksX1_chance_0 18 rfl rfl)
theorem dX1_chance_19 : decode cX1_chance 19 = .ok (.invokevirtual 185, 3) := dk_182 0 185 (dk_at dksX1_chance_0 19 rfl rfl)
theorem dX1_chance_22 : decode cX1_chance 22 = .ok (.ifCond .eq 11, 3) := dk_153 0 11 (dk_at dksX1_chance_1 0 rfl rfl)
theorem dX1_chance_25 : decode cX1_chance 25 = .ok (.aload_n 0, 1) := dk_42 (dk_at dksX1_chance_1 3 rfl rfl)
theorem dX1_chance_26 : decode cX1_chance 26 = .ok (.iload_n 2, 1) := dk_28 (dk_at dksX1_chance_1 4 rfl rfl)
theorem dX1_chance_27 : decode cX1_chance 27 = .ok (.invokevirtual 298, 3) := dk_182 1 42 (dk_at dksX1_chance_1 5 rfl rfl)
theorem dX1_chance_30 : decode cX1_chance 30 = .ok (.ifCond .ne 7, 3) := dk_154 0 7 (dk_at dksX1_chance_1 8 rfl rfl)
theorem dX1_chance_33 : decode cX1_chance 33 = .ok (.ldc_w 350, 3) := dk_19 1 94 (dk_at dksX1_chance_1 11 rfl rfl)
theorem dX1_chance_36 : decode cX1_chance 36 = .ok (.ireturn, 1) := dk_172 (dk_at dksX1_chance_1 14 rfl rfl)
theorem dX1_chance_37 : decode cX1_chance 37 = .ok (.aload_n 0, 1) := dk_42 (dk_at dksX1_chance_1 15 rfl rfl)
theorem dX1_chance_38 : decode cX1_chance 38 = .ok (.iload_n 1, 1) := dk_27 (dk_at dksX1_chance_1 16 rfl rfl)
theorem dX1_chance_39 : decode cX1_chance 39 = .ok (.iconst (-1), 1) := dk_2 (dk_at dksX1_chance_1 17 rfl rfl)
theorem dX1_chance_40 : decode cX1_chance 40 = .ok (.if_icmp .ne 13, 3) := dk_160 0 13 (dk_at dksX1_chance_1 18 rfl rfl)
theorem dX1_chance_43 : decode cX1_chance 43 = .ok (.aload_n 0, 1) := dk_42 (dk_at dksX1_chance_1 21 rfl rfl)
theorem dX1_chance_44 : decode cX1_chance 44 = .ok (.getfield 54, 3) := dk_180 0 54 (dk_at dksX1_chance_2 0 rfl rfl)
theorem dX1_chance_47 : decode cX1_chance 47 = .ok (.getfield 480, 3) := dk_180 1 224 (dk_at dksX1_chance_2 3 rfl rfl)
theorem dX1_chance_50 : decode cX1_chance 50 = .ok (.goto 4, 3) := dk_167 0 4 (dk_at dksX1_chance_2 6 rfl rfl)
theorem dX1_chance_53 : decode cX1_chance 53 = .ok (.iload_n 1, 1) := dk_27 (dk_at dksX1_chance_2 9 rfl rfl)
theorem dX1_chance_54 : decode cX1_chance 54 = .ok (.putfield 473, 3) := dk_181 1 217 (dk_at dksX1_chance_2 10 rfl rfl)
theorem dX1_chance_57 : decode cX1_chance 57 = .ok (.aload_n 0, 1) := dk_42 (dk_at dksX1_chance_2 13 rfl rfl)
theorem dX1_chance_58 : decode cX1_chance 58 = .ok (.getfield 69, 3) := dk_180 0 69 (dk_at dksX1_chance_2 14 rfl rfl)
theorem dX1_chance_61 : decode cX1_chance 61 = .ok (.aload_n 0, 1) := dk_42 (dk_at dksX1_chance_2 17 rfl rfl)
theorem dX1_chance_62 : decode cX1_chance 62 = .ok (.getfield 65, 3) := dk_180 0 65 (dk_at dksX1_chance_2 18 rfl rfl)
theorem dX1_chance_65 : decode cX1_chance 65 = .ok (.invokevirtual 250, 3) := dk_182 0 250 (dk_at dksX1_chance_2 21 rfl rfl)
theorem dX1_chance_68 : decode cX1_chance 68 = .ok (.pop, 1) := dk_87 (dk_at dksX1_chance_3 0 rfl rfl)
theorem dX1_chance_69 : decode cX1_chance 69 = .ok (.iconst 0, 1) := dk_3 (dk_at dksX1_chance_3 1 rfl rfl)
theorem dX1_chance_70 : decode cX1_chance 70 = .ok (.istore 4, 2) := dk_54 4 (dk_at dksX1_chance_3 2 rfl rfl)
theorem dX1_chance_72 : decode cX1_chance 72 = .ok (.iload 4, 2) := dk_21 4 (dk_at dksX1_chance_3 4 rfl rfl)
theorem dX1_chance_74 : decode cX1_chance 74 = .ok (.iload_n 2, 1) := dk_28 (dk_at dksX1_chance_3 6 rfl rfl)
theorem dX1_chance_75 : decode cX1_chance 75 = .ok (.if_icmp .ge 66, 3) := dk_162 0 66 (dk_at dksX1_chance_3 7 rfl rfl)
theorem dX1_chance_78 : decode cX1_chance 78 = .ok (.iconst 0, 1) := dk_3 (dk_at dksX1_chance_3 10 rfl rfl)
theorem dX1_chance_79 : decode cX1_chance 79 = .ok (.istore 5, 2) := dk_54 5 (dk_at dksX1_chance_3 11 rfl rfl)
theorem dX1_chance_81 : decode cX1_chance 81 = .ok (.iload 5, 2) := dk_21 5 (dk_at dksX1_chance_3 13 rfl rfl)
theorem dX1_chance_83 : decode cX1_chance 83 = .ok (.iconst 2, 1) := dk_5 (dk_at dksX1_chance_3 15 rfl rfl)
theorem dX1_chance_84 : decode cX1_chance 84 = .ok (.if_icmp .ge 43, 3) := dk_162 0 43 (dk_at dksX1_chance_3 16 rfl rfl)
theorem dX1_chance_87 : decode cX1_chance 87 = .ok (.aload_n 0, 1) := dk_42 (dk_at dksX1_chance_3 19 rfl rfl)
theorem dX1_chance_88 : decode cX1_chance 88 = .ok (.getfield 69, 3) := dk_180 0 69 (dk_at dksX1_chance_3 20 rfl rfl)
theorem dX1_chance_91 : decode cX1_chance 91 = .ok (.getfield 263, 3) := dk_180 1 7 (dk_at dksX1_chance_4 0 rfl rfl)
theorem dX1_chance_94 : decode cX1_chance 94 = .ok (.iload_n 3, 1) := dk_29 (dk_at dksX1_chance_4 3 rfl rfl)
theorem dX1_chance_95 : decode cX1_chance 95 = .ok (.aaload, 1) := dk_50 (dk_at dksX1_chance_4 4 rfl rfl)
theorem dX1_chance_96 : decode cX1_chance 96 = .ok (.aload_n 0, 1) := dk_42 (dk_at dksX1_chance_4 5 rfl rfl)
theorem dX1_chance_97 : decode cX1_chance 97 = .ok (.getfield 69, 3) := dk_180 0 69 (dk_at dksX1_chance_4 6 rfl rfl)
theorem dX1_chance_100 : decode cX1_chance 100 = .ok (.getfield 142, 3) := dk_180 0 142 (dk_at dksX1_chance_4 9 rfl rfl)
theorem dX1_chance_103 : decode cX1_chance 103 = .ok (.aaload, 1) := dk_50 (dk_at dksX1_chance_4 12 rfl rfl)
theorem dX1_chance_104 : decode cX1_chance 104 = .ok (.getfield 267, 3) := dk_180 1 11 (dk_at dksX1_chance_4 13 rfl rfl)
theorem dX1_chance_107 : decode cX1_chance 107 = .ok (.iload 5, 2) := dk_21 5 (dk_at dksX1_chance_4 16 rfl rfl)
theorem dX1_chance_109 : decode cX1_chance 109 = .ok (.dup2, 1) := dk_92 (dk_at dksX1_chance_4 18 rfl rfl)
theorem dX1_chance_110 : decode cX1_chance 110 = .ok (.laload, 1) := dk_47 (dk_at dksX1_chance_4 19 rfl rfl)
theorem dX1_chance_111 : decode cX1_chance 111 = .ok (.aload_n 0, 1) := dk_42 (dk_at dksX1_chance_4 20 rfl rfl)
theorem dX1_chance_112 : decode cX1_chance 112 = .ok (.sipush 1000, 3) := dk_17 3 232 (dk_at dksX1_chance_4 21 rfl rfl)
theorem dX1_chance_115 : decode cX1_chance 115 = .ok (.invokevirtual 483, 3) := dk_182 1 227 (dk_at dksX1_chance_5 0 rfl rfl)
theorem dX1_chance_118 : decode cX1_chance 118 = .ok (.i2l, 1) := dk_133 (dk_at dksX1_chance_5 3 rfl rfl)
theorem dX1_chance_119 : decode cX1_chance 119 = .ok (.ladd, 1) := dk_97 (dk_at dksX1_chance_5 4 rfl rfl)
theorem dX1_chance_120 : decode cX1_chance 120 = .ok (.lastore, 1) := dk_80 (dk_at dksX1_chance_5 5 rfl rfl)
theorem dX1_chance_121 : decode cX1_chance 121 = .ok (.iinc 5 1, 3) := dk_132 5 1 (dk_at dksX1_chance_5 6 rfl rfl)
theorem dX1_chance_124 : decode cX1_chance 124 = .ok (.goto (-43), 3) := dk_167 255 213 (dk_at dksX1_chance_5 9 rfl rfl)
theorem dX1_chance_127 : decode cX1_chance 127 = .ok (.aload_n 0, 1) := dk_42 (dk_at dksX1_chance_5 12 rfl rfl)
theorem dX1_chance_128 : decode cX1_chance 128 = .ok (.getfield 69, 3) := dk_180 0 69 (dk_at dksX1_chance_5 13 rfl rfl)
theorem dX1_chance_131 : decode cX1_chance 131 = .ok (.invokevirtual 304, 3) := dk_182 1 48 (dk_at dksX1_chance_5 16 rfl rfl)
theorem dX1_chance_134 : decode cX1_chance 134 = .ok (.pop, 1) := dk_87 (dk_at dksX1_chance_5 19 rfl rfl)
theorem dX1_chance_135 : decode cX1_chance 135 = .ok (.iinc 4 1, 3) := dk_132 4 1 (dk_at dksX1_chance_5 20 rfl rfl)
theorem dX1_chance_138 : decode cX1_chance 138 = .ok (.goto (-66), 3) := dk_167 255 190 (dk_at dksX1_chance_6 0 rfl rfl)
theorem dX1_chance_141 : decode cX1_chance 141 = .ok (.iconst 0, 1) := dk_3 (dk_at dksX1_chance_6 3 rfl rfl)
theorem dX1_chance_142 : decode cX1_chance 142 = .ok (.istore 4, 2) := dk_54 4 (dk_at dksX1_chance_6 4 rfl rfl)
theorem dX1_chance_144 : decode cX1_chance 144 = .ok (.iconst 0, 1) := dk_3 (dk_at dksX1_chance_6 6 rfl rfl)
theorem dX1_chance_145 : decode cX1_chance 145 = .ok (.istore 5, 2) := dk_54 5 (dk_at dksX1_chance_6 7 rfl rfl)
theorem dX1_chance_147 : decode cX1_chance 147 = .ok (.iload 5, 2) := dk_21 5 (dk_at dksX1_chance_6 9 rfl rfl)
theorem dX1_chance_149 : decode cX1_chance 149 = .ok (.iconst 4, 1) := dk_7 (dk_at dksX1_chance_6 11 rfl rfl)
theorem dX1_chance_150 : decode cX1_chance 150 = .ok (.if_icmp .ge 39, 3) := dk_162 0 39 (dk_at dksX1_chance_6 12 rfl rfl)
theorem dX1_chance_153 : decode cX1_chance 153 = .ok (.iload 4, 2) := dk_21 4 (dk_at dksX1_chance_6 15 rfl rfl)
theorem dX1_chance_155 : decode cX1_chance 155 = .ok (.aload_n 0, 1) := dk_42 (dk_at dksX1_chance_6 17 rfl rfl)
theorem dX1_chance_156 : decode cX1_chance 156 = .ok (.getfield 69, 3) := dk_180 0 69 (dk_at dksX1_chance_6 18 rfl rfl)
theorem dX1_chance_159 : decode cX1_chance 159 = .ok (.getfield 391, 3) := dk_180 1 135 (dk_at dksX1_chance_6 21 rfl rfl)
theorem dX1_chance_162 : decode cX1_chance 162 = .ok (.iload_n 3, 1) := dk_29 (dk_at dksX1_chance_7 0 rfl rfl)
theorem dX1_chance_163 : decode cX1_chance 163 = .ok (.aaload, 1) := dk_50 (dk_at dksX1_chance_7 1 rfl rfl)
theorem dX1_chance_164 : decode cX1_chance 164 = .ok (.iload 5, 2) := dk_21 5 (dk_at dksX1_chance_7 2 rfl rfl)
theorem dX1_chance_166 : decode cX1_chance 166 = .ok (.iaload, 1) := dk_46 (dk_at dksX1_chance_7 4 rfl rfl)
theorem dX1_chance_167 : decode cX1_chance 167 = .ok (.aload_n 0, 1) := dk_42 (dk_at dksX1_chance_7 5 rfl rfl)
theorem dX1_chance_168 : decode cX1_chance 168 = .ok (.getfield 65, 3) := dk_180 0 65 (dk_at dksX1_chance_7 6 rfl rfl)
theorem dX1_chance_171 : decode cX1_chance 171 = .ok (.getfield 391, 3) := dk_180 1 135 (dk_at dksX1_chance_7 9 rfl rfl)
theorem dX1_chance_174 : decode cX1_chance 174 = .ok (.iload_n 3, 1) := dk_29 (dk_at dksX1_chance_7 12 rfl rfl)
theorem dX1_chance_175 : decode cX1_chance 175 = .ok (.aaload, 1) := dk_50 (dk_at dksX1_chance_7 13 rfl rfl)
theorem dX1_chance_176 : decode cX1_chance 176 = .ok (.iload 5, 2) := dk_21 5 (dk_at dksX1_chance_7 14 rfl rfl)
theorem dX1_chance_178 : decode cX1_chance 178 = .ok (.iaload, 1) := dk_46 (dk_at dksX1_chance_7 16 rfl rfl)
theorem dX1_chance_179 : decode cX1_chance 179 = .ok (.isub, 1) := dk_100 (dk_at dksX1_chance_7 17 rfl rfl)
theorem dX1_chance_180 : decode cX1_chance 180 = .ok (.iadd, 1) := dk_96 (dk_at dksX1_chance_7 18 rfl rfl)
theorem dX1_chance_181 : decode cX1_chance 181 = .ok (.istore 4, 2) := dk_54 4 (dk_at dksX1_chance_7 19 rfl rfl)
theorem dX1_chance_183 : decode cX1_chance 183 = .ok (.iinc 5 1, 3) := dk_132 5 1 (dk_at dksX1_chance_7 21 rfl rfl)
theorem dX1_chance_186 : decode cX1_chance 186 = .ok (.goto (-39), 3) := dk_167 255 217 (dk_at dksX1_chance_8 0 rfl rfl)
theorem dX1_chance_189 : decode cX1_chance 189 = .ok (.iload 4, 2) := dk_21 4 (dk_at dksX1_chance_8 3 rfl rfl)
theorem dX1_chance_191 : decode cX1_chance 191 = .ok (.ireturn, 1) := dk_172 (dk_at dksX1_chance_8 5 rfl rfl)
abbrev cX1_draw : ByteArray := prog_1_method_61_code
def yX1_draw : MethodName := ⟨RX1, "draw", "(I)I"⟩
def dkwX1_draw_0 : List UInt8 := [42, 42, 180, 1, 217, 184, 1, 220, 181, 1, 217, 42, 180, 1, 217, 16, 16, 122, 27, 112, 172]
abbrev dktX1_draw_0 : List UInt8 := dkwX1_draw_0 ++ []
theorem dksX1_draw_0 : cX1_draw.data.toList.drop 0 = dktX1_draw_0 := by decide +kernel
theorem dX1_draw_0 : decode cX1_draw 0 = .ok (.aload_n 0, 1) := dk_42 (dk_at dksX1_draw_0 0 rfl rfl)
theorem dX1_draw_1 : decode cX1_draw 1 = .ok (.aload_n 0, 1) := dk_42 (dk_at dksX1_draw_0 1 rfl rfl)
theorem dX1_draw_2 : decode cX1_draw 2 = .ok (.getfield 473, 3) := dk_180 1 217 (dk_at dksX1_draw_0 2 rfl rfl)
theorem dX1_draw_5 : decode cX1_draw 5 = .ok (.invokestatic 476, 3) := dk_184 1 220 (dk_at dksX1_draw_0 5 rfl rfl)
theorem dX1_draw_8 : decode cX1_draw 8 = .ok (.putfield 473, 3) := dk_181 1 217 (dk_at dksX1_draw_0 8 rfl rfl)
theorem dX1_draw_11 : decode cX1_draw 11 = .ok (.aload_n 0, 1) := dk_42 (dk_at dksX1_draw_0 11 rfl rfl)
theorem dX1_draw_12 : decode cX1_draw 12 = .ok (.getfield 473, 3) := dk_180 1 217 (dk_at dksX1_draw_0 12 rfl rfl)
theorem dX1_draw_15 : decode cX1_draw 15 = .ok (.bipush 16, 2) := dk_16 16 (dk_at dksX1_draw_0 15 rfl rfl)
theorem dX1_draw_17 : decode cX1_draw 17 = .ok (.ishr, 1) := dk_122 (dk_at dksX1_draw_0 17 rfl rfl)
theorem dX1_draw_18 : decode cX1_draw 18 = .ok (.iload_n 1, 1) := dk_27 (dk_at dksX1_draw_0 18 rfl rfl)
theorem dX1_draw_19 : decode cX1_draw 19 = .ok (.irem, 1) := dk_112 (dk_at dksX1_draw_0 19 rfl rfl)
theorem dX1_draw_20 : decode cX1_draw 20 = .ok (.ireturn, 1) := dk_172 (dk_at dksX1_draw_0 20 rfl rfl)
abbrev cX1_next : ByteArray := prog_1_method_3_code
def yX1_next : MethodName := ⟨RX1, "next", "(I)I"⟩
def dkwX1_next_0 : List UInt8 := [26, 18, 1, 104, 17, 48, 57, 96, 18, 4, 126, 172]
abbrev dktX1_next_0 : List UInt8 := dkwX1_next_0 ++ []
theorem dksX1_next_0 : cX1_next.data.toList.drop 0 = dktX1_next_0 := by decide +kernel
theorem dX1_next_0 : decode cX1_next 0 = .ok (.iload_n 0, 1) := dk_26 (dk_at dksX1_next_0 0 rfl rfl)
theorem dX1_next_1 : decode cX1_next 1 = .ok (.ldc 1, 2) := dk_18 1 (dk_at dksX1_next_0 1 rfl rfl)
theorem dX1_next_3 : decode cX1_next 3 = .ok (.imul, 1) := dk_104 (dk_at dksX1_next_0 3 rfl rfl)
theorem dX1_next_4 : decode cX1_next 4 = .ok (.sipush 12345, 3) := dk_17 48 57 (dk_at dksX1_next_0 4 rfl rfl)
theorem dX1_next_7 : decode cX1_next 7 = .ok (.iadd, 1) := dk_96 (dk_at dksX1_next_0 7 rfl rfl)
theorem dX1_next_8 : decode cX1_next 8 = .ok (.ldc 4, 2) := dk_18 4 (dk_at dksX1_next_0 8 rfl rfl)
theorem dX1_next_10 : decode cX1_next 10 = .ok (.iand, 1) := dk_126 (dk_at dksX1_next_0 10 rfl rfl)
theorem dX1_next_11 : decode cX1_next 11 = .ok (.ireturn, 1) := dk_172 (dk_at dksX1_next_0 11 rfl rfl)
abbrev cX1_farthest : ByteArray := prog_1_method_63_code
def yX1_farthest : MethodName := ⟨RX1, "farthest", "(I)I"⟩
def dkwX1_farthest_2 : List UInt8 := [180, 1, 230, 27, 50, 28, 46, 184, 1, 233, 164, 0, 5, 29, 61, 132, 3, 1, 167, 255, 206, 28, 172]
abbrev dktX1_farthest_2 : List UInt8 := dkwX1_farthest_2 ++ []
def dkwX1_farthest_1 : List UInt8 := [16, 254, 159, 0, 34, 42, 180, 0, 65, 180, 1, 230, 27, 50, 29, 46, 184, 1, 233, 42, 180, 0, 65]
abbrev dktX1_farthest_1 : List UInt8 := dkwX1_farthest_1 ++ dktX1_farthest_2
def dkwX1_farthest_0 : List UInt8 := [42, 27, 182, 0, 185, 154, 0, 5, 2, 172, 16, 254, 61, 3, 62, 29, 42, 182, 0, 158, 162, 0, 48, 28]
abbrev dktX1_farthest_0 : List UInt8 := dkwX1_farthest_0 ++ dktX1_farthest_1
theorem dksX1_farthest_0 : cX1_farthest.data.toList.drop 0 = dktX1_farthest_0 := by decide +kernel
theorem dksX1_farthest_1 : cX1_farthest.data.toList.drop 24 = dktX1_farthest_1 := dk_seg dksX1_farthest_0 24 rfl rfl
theorem dksX1_farthest_2 : cX1_farthest.data.toList.drop 47 = dktX1_farthest_2 := dk_seg dksX1_farthest_1 23 rfl rfl
theorem dX1_farthest_0 : decode cX1_farthest 0 = .ok (.aload_n 0, 1) := dk_42 (dk_at dksX1_farthest_0 0 rfl rfl)
theorem dX1_farthest_1 : decode cX1_farthest 1 = .ok (.iload_n 1, 1) := dk_27 (dk_at dksX1_farthest_0 1 rfl rfl)
theorem dX1_farthest_2 : decode cX1_farthest 2 = .ok (.invokevirtual 185, 3) := dk_182 0 185 (dk_at dksX1_farthest_0 2 rfl rfl)
theorem dX1_farthest_5 : decode cX1_farthest 5 = .ok (.ifCond .ne 5, 3) := dk_154 0 5 (dk_at dksX1_farthest_0 5 rfl rfl)
theorem dX1_farthest_8 : decode cX1_farthest 8 = .ok (.iconst (-1), 1) := dk_2 (dk_at dksX1_farthest_0 8 rfl rfl)
theorem dX1_farthest_9 : decode cX1_farthest 9 = .ok (.ireturn, 1) := dk_172 (dk_at dksX1_farthest_0 9 rfl rfl)
theorem dX1_farthest_10 : decode cX1_farthest 10 = .ok (.bipush (-2), 2) := dk_16 254 (dk_at dksX1_farthest_0 10 rfl rfl)
theorem dX1_farthest_12 : decode cX1_farthest 12 = .ok (.istore_n 2, 1) := dk_61 (dk_at dksX1_farthest_0 12 rfl rfl)
theorem dX1_farthest_13 : decode cX1_farthest 13 = .ok (.iconst 0, 1) := dk_3 (dk_at dksX1_farthest_0 13 rfl rfl)
theorem dX1_farthest_14 : decode cX1_farthest 14 = .ok (.istore_n 3, 1) := dk_62 (dk_at dksX1_farthest_0 14 rfl rfl)
theorem dX1_farthest_15 : decode cX1_farthest 15 = .ok (.iload_n 3, 1) := dk_29 (dk_at dksX1_farthest_0 15 rfl rfl)
theorem dX1_farthest_16 : decode cX1_farthest 16 = .ok (.aload_n 0, 1) := dk_42 (dk_at dksX1_farthest_0 16 rfl rfl)
theorem dX1_farthest_17 : decode cX1_farthest 17 = .ok (.invokevirtual 158, 3) := dk_182 0 158 (dk_at dksX1_farthest_0 17 rfl rfl)
theorem dX1_farthest_20 : decode cX1_farthest 20 = .ok (.if_icmp .ge 48, 3) := dk_162 0 48 (dk_at dksX1_farthest_0 20 rfl rfl)
theorem dX1_farthest_23 : decode cX1_farthest 23 = .ok (.iload_n 2, 1) := dk_28 (dk_at dksX1_farthest_0 23 rfl rfl)
theorem dX1_farthest_24 : decode cX1_farthest 24 = .ok (.bipush (-2), 2) := dk_16 254 (dk_at dksX1_farthest_1 0 rfl rfl)
theorem dX1_farthest_26 : decode cX1_farthest 26 = .ok (.if_icmp .eq 34, 3) := dk_159 0 34 (dk_at dksX1_farthest_1 2 rfl rfl)
theorem dX1_farthest_29 : decode cX1_farthest 29 = .ok (.aload_n 0, 1) := dk_42 (dk_at dksX1_farthest_1 5 rfl rfl)
theorem dX1_farthest_30 : decode cX1_farthest 30 = .ok (.getfield 65, 3) := dk_180 0 65 (dk_at dksX1_farthest_1 6 rfl rfl)
theorem dX1_farthest_33 : decode cX1_farthest 33 = .ok (.getfield 486, 3) := dk_180 1 230 (dk_at dksX1_farthest_1 9 rfl rfl)
theorem dX1_farthest_36 : decode cX1_farthest 36 = .ok (.iload_n 1, 1) := dk_27 (dk_at dksX1_farthest_1 12 rfl rfl)
theorem dX1_farthest_37 : decode cX1_farthest 37 = .ok (.aaload, 1) := dk_50 (dk_at dksX1_farthest_1 13 rfl rfl)
theorem dX1_farthest_38 : decode cX1_farthest 38 = .ok (.iload_n 3, 1) := dk_29 (dk_at dksX1_farthest_1 14 rfl rfl)
theorem dX1_farthest_39 : decode cX1_farthest 39 = .ok (.iaload, 1) := dk_46 (dk_at dksX1_farthest_1 15 rfl rfl)
theorem dX1_farthest_40 : decode cX1_farthest 40 = .ok (.invokestatic 489, 3) := dk_184 1 233 (dk_at dksX1_farthest_1 16 rfl rfl)
theorem dX1_farthest_43 : decode cX1_farthest 43 = .ok (.aload_n 0, 1) := dk_42 (dk_at dksX1_farthest_1 19 rfl rfl)
theorem dX1_farthest_44 : decode cX1_farthest 44 = .ok (.getfield 65, 3) := dk_180 0 65 (dk_at dksX1_farthest_1 20 rfl rfl)
theorem dX1_farthest_47 : decode cX1_farthest 47 = .ok (.getfield 486, 3) := dk_180 1 230 (dk_at dksX1_farthest_2 0 rfl rfl)
theorem dX1_farthest_50 : decode cX1_farthest 50 = .ok (.iload_n 1, 1) := dk_27 (dk_at dksX1_farthest_2 3 rfl rfl)
theorem dX1_farthest_51 : decode cX1_farthest 51 = .ok (.aaload, 1) := dk_50 (dk_at dksX1_farthest_2 4 rfl rfl)
theorem dX1_farthest_52 : decode cX1_farthest 52 = .ok (.iload_n 2, 1) := dk_28 (dk_at dksX1_farthest_2 5 rfl rfl)
theorem dX1_farthest_53 : decode cX1_farthest 53 = .ok (.iaload, 1) := dk_46 (dk_at dksX1_farthest_2 6 rfl rfl)
theorem dX1_farthest_54 : decode cX1_farthest 54 = .ok (.invokestatic 489, 3) := dk_184 1 233 (dk_at dksX1_farthest_2 7 rfl rfl)
theorem dX1_farthest_57 : decode cX1_farthest 57 = .ok (.if_icmp .le 5, 3) := dk_164 0 5 (dk_at dksX1_farthest_2 10 rfl rfl)
theorem dX1_farthest_60 : decode cX1_farthest 60 = .ok (.iload_n 3, 1) := dk_29 (dk_at dksX1_farthest_2 13 rfl rfl)
theorem dX1_farthest_61 : decode cX1_farthest 61 = .ok (.istore_n 2, 1) := dk_61 (dk_at dksX1_farthest_2 14 rfl rfl)
theorem dX1_farthest_62 : decode cX1_farthest 62 = .ok (.iinc 3 1, 3) := dk_132 3 1 (dk_at dksX1_farthest_2 15 rfl rfl)
theorem dX1_farthest_65 : decode cX1_farthest 65 = .ok (.goto (-50), 3) := dk_167 255 206 (dk_at dksX1_farthest_2 18 rfl rfl)
theorem dX1_farthest_68 : decode cX1_farthest 68 = .ok (.iload_n 2, 1) := dk_28 (dk_at dksX1_farthest_2 21 rfl rfl)
theorem dX1_farthest_69 : decode cX1_farthest 69 = .ok (.ireturn, 1) := dk_172 (dk_at dksX1_farthest_2 22 rfl rfl)
abbrev cX1_undo : ByteArray := prog_1_method_64_code
def yX1_undo : MethodName := ⟨RX1, "undo", "()I"⟩
def dkwX1_undo_1 : List UInt8 := [181, 0, 65, 42, 180, 0, 75, 182, 0, 135, 172]
abbrev dktX1_undo_1 : List UInt8 := dkwX1_undo_1 ++ []
def dkwX1_undo_0 : List UInt8 := [42, 180, 0, 75, 182, 1, 236, 153, 0, 5, 2, 172, 42, 42, 180, 0, 75, 182, 1, 239, 192, 0, 58]
abbrev dktX1_undo_0 : List UInt8 := dkwX1_undo_0 ++ dktX1_undo_1
theorem dksX1_undo_0 : cX1_undo.data.toList.drop 0 = dktX1_undo_0 := by decide +kernel
theorem dksX1_undo_1 : cX1_undo.data.toList.drop 23 = dktX1_undo_1 := dk_seg dksX1_undo_0 23 rfl rfl
theorem dX1_undo_0 : decode cX1_undo 0 = .ok (.aload_n 0, 1) := dk_42 (dk_at dksX1_undo_0 0 rfl rfl)
theorem dX1_undo_1 : decode cX1_undo 1 = .ok (.getfield 75, 3) := dk_180 0 75 (dk_at dksX1_undo_0 1 rfl rfl)
theorem dX1_undo_4 : decode cX1_undo 4 = .ok (.invokevirtual 492, 3) := dk_182 1 236 (dk_at dksX1_undo_0 4 rfl rfl)
theorem dX1_undo_7 : decode cX1_undo 7 = .ok (.ifCond .eq 5, 3) := dk_153 0 5 (dk_at dksX1_undo_0 7 rfl rfl)
theorem dX1_undo_10 : decode cX1_undo 10 = .ok (.iconst (-1), 1) := dk_2 (dk_at dksX1_undo_0 10 rfl rfl)
theorem dX1_undo_11 : decode cX1_undo 11 = .ok (.ireturn, 1) := dk_172 (dk_at dksX1_undo_0 11 rfl rfl)
theorem dX1_undo_12 : decode cX1_undo 12 = .ok (.aload_n 0, 1) := dk_42 (dk_at dksX1_undo_0 12 rfl rfl)
theorem dX1_undo_13 : decode cX1_undo 13 = .ok (.aload_n 0, 1) := dk_42 (dk_at dksX1_undo_0 13 rfl rfl)
theorem dX1_undo_14 : decode cX1_undo 14 = .ok (.getfield 75, 3) := dk_180 0 75 (dk_at dksX1_undo_0 14 rfl rfl)
theorem dX1_undo_17 : decode cX1_undo 17 = .ok (.invokevirtual 495, 3) := dk_182 1 239 (dk_at dksX1_undo_0 17 rfl rfl)
theorem dX1_undo_20 : decode cX1_undo 20 = .ok (.checkcast 58, 3) := dk_192 0 58 (dk_at dksX1_undo_0 20 rfl rfl)
theorem dX1_undo_23 : decode cX1_undo 23 = .ok (.putfield 65, 3) := dk_181 0 65 (dk_at dksX1_undo_1 0 rfl rfl)
theorem dX1_undo_26 : decode cX1_undo 26 = .ok (.aload_n 0, 1) := dk_42 (dk_at dksX1_undo_1 3 rfl rfl)
theorem dX1_undo_27 : decode cX1_undo 27 = .ok (.getfield 75, 3) := dk_180 0 75 (dk_at dksX1_undo_1 4 rfl rfl)
theorem dX1_undo_30 : decode cX1_undo 30 = .ok (.invokevirtual 135, 3) := dk_182 0 135 (dk_at dksX1_undo_1 7 rfl rfl)
theorem dX1_undo_33 : decode cX1_undo 33 = .ok (.ireturn, 1) := dk_172 (dk_at dksX1_undo_1 10 rfl rfl)
abbrev cX1_keep : ByteArray := prog_1_method_65_code
def yX1_keep : MethodName := ⟨RX1, "keep", "()I"⟩
def dkwX1_keep_1 : List UInt8 := [180, 0, 142, 172]
abbrev dktX1_keep_1 : List UInt8 := dkwX1_keep_1 ++ []
def dkwX1_keep_0 : List UInt8 := [42, 187, 0, 58, 89, 42, 183, 0, 60, 42, 180, 0, 65, 182, 0, 250, 181, 0, 118, 42, 180, 0, 65]
abbrev dktX1_keep_0 : List UInt8 := dkwX1_keep_0 ++ dktX1_keep_1
theorem dksX1_keep_0 : cX1_keep.data.toList.drop 0 = dktX1_keep_0 := by decide +kernel
theorem dksX1_keep_1 : cX1_keep.data.toList.drop 23 = dktX1_keep_1 := dk_seg dksX1_keep_0 23 rfl rfl
theorem dX1_keep_0 : decode cX1_keep 0 = .ok (.aload_n 0, 1) := dk_42 (dk_at dksX1_keep_0 0 rfl rfl)
theorem dX1_keep_1 : decode cX1_keep 1 = .ok (.new 58, 3) := dk_187 0 58 (dk_at dksX1_keep_0 1 rfl rfl)
theorem dX1_keep_4 : decode cX1_keep 4 = .ok (.dup, 1) := dk_89 (dk_at dksX1_keep_0 4 rfl rfl)
theorem dX1_keep_5 : decode cX1_keep 5 = .ok (.aload_n 0, 1) := dk_42 (dk_at dksX1_keep_0 5 rfl rfl)
theorem dX1_keep_6 : decode cX1_keep 6 = .ok (.invokespecial 60, 3) := dk_183 0 60 (dk_at dksX1_keep_0 6 rfl rfl)
theorem dX1_keep_9 : decode cX1_keep 9 = .ok (.aload_n 0, 1) := dk_42 (dk_at dksX1_keep_0 9 rfl rfl)
theorem dX1_keep_10 : decode cX1_keep 10 = .ok (.getfield 65, 3) := dk_180 0 65 (dk_at dksX1_keep_0 10 rfl rfl)
theorem dX1_keep_13 : decode cX1_keep 13 = .ok (.invokevirtual 250, 3) := dk_182 0 250 (dk_at dksX1_keep_0 13 rfl rfl)
theorem dX1_keep_16 : decode cX1_keep 16 = .ok (.putfield 118, 3) := dk_181 0 118 (dk_at dksX1_keep_0 16 rfl rfl)
theorem dX1_keep_19 : decode cX1_keep 19 = .ok (.aload_n 0, 1) := dk_42 (dk_at dksX1_keep_0 19 rfl rfl)
theorem dX1_keep_20 : decode cX1_keep 20 = .ok (.getfield 65, 3) := dk_180 0 65 (dk_at dksX1_keep_0 20 rfl rfl)
theorem dX1_keep_23 : decode cX1_keep 23 = .ok (.getfield 142, 3) := dk_180 0 142 (dk_at dksX1_keep_1 0 rfl rfl)
theorem dX1_keep_26 : decode cX1_keep 26 = .ok (.ireturn, 1) := dk_172 (dk_at dksX1_keep_1 3 rfl rfl)
abbrev cX1_back : ByteArray := prog_1_method_66_code
def yX1_back : MethodName := ⟨RX1, "back", "()I"⟩
def dkwX1_back_1 : List UInt8 := [180, 0, 75, 182, 0, 115, 42, 180, 0, 65, 180, 0, 142, 172]
abbrev dktX1_back_1 : List UInt8 := dkwX1_back_1 ++ []
def dkwX1_back_0 : List UInt8 := [42, 180, 0, 118, 199, 0, 5, 2, 172, 42, 180, 0, 65, 42, 180, 0, 118, 182, 0, 250, 87, 42]
abbrev dktX1_back_0 : List UInt8 := dkwX1_back_0 ++ dktX1_back_1
theorem dksX1_back_0 : cX1_back.data.toList.drop 0 = dktX1_back_0 := by decide +kernel
theorem dksX1_back_1 : cX1_back.data.toList.drop 22 = dktX1_back_1 := dk_seg dksX1_back_0 22 rfl rfl
theorem dX1_back_0 : decode cX1_back 0 = .ok (.aload_n 0, 1) := dk_42 (dk_at dksX1_back_0 0 rfl rfl)
theorem dX1_back_1 : decode cX1_back 1 = .ok (.getfield 118, 3) := dk_180 0 118 (dk_at dksX1_back_0 1 rfl rfl)
theorem dX1_back_4 : decode cX1_back 4 = .ok (.ifnonnull 5, 3) := dk_199 0 5 (dk_at dksX1_back_0 4 rfl rfl)
theorem dX1_back_7 : decode cX1_back 7 = .ok (.iconst (-1), 1) := dk_2 (dk_at dksX1_back_0 7 rfl rfl)
theorem dX1_back_8 : decode cX1_back 8 = .ok (.ireturn, 1) := dk_172 (dk_at dksX1_back_0 8 rfl rfl)
theorem dX1_back_9 : decode cX1_back 9 = .ok (.aload_n 0, 1) := dk_42 (dk_at dksX1_back_0 9 rfl rfl)
theorem dX1_back_10 : decode cX1_back 10 = .ok (.getfield 65, 3) := dk_180 0 65 (dk_at dksX1_back_0 10 rfl rfl)
theorem dX1_back_13 : decode cX1_back 13 = .ok (.aload_n 0, 1) := dk_42 (dk_at dksX1_back_0 13 rfl rfl)
theorem dX1_back_14 : decode cX1_back 14 = .ok (.getfield 118, 3) := dk_180 0 118 (dk_at dksX1_back_0 14 rfl rfl)
theorem dX1_back_17 : decode cX1_back 17 = .ok (.invokevirtual 250, 3) := dk_182 0 250 (dk_at dksX1_back_0 17 rfl rfl)
theorem dX1_back_20 : decode cX1_back 20 = .ok (.pop, 1) := dk_87 (dk_at dksX1_back_0 20 rfl rfl)
theorem dX1_back_21 : decode cX1_back 21 = .ok (.aload_n 0, 1) := dk_42 (dk_at dksX1_back_0 21 rfl rfl)
theorem dX1_back_22 : decode cX1_back 22 = .ok (.getfield 75, 3) := dk_180 0 75 (dk_at dksX1_back_1 0 rfl rfl)
theorem dX1_back_25 : decode cX1_back 25 = .ok (.invokevirtual 115, 3) := dk_182 0 115 (dk_at dksX1_back_1 3 rfl rfl)
theorem dX1_back_28 : decode cX1_back 28 = .ok (.aload_n 0, 1) := dk_42 (dk_at dksX1_back_1 6 rfl rfl)
theorem dX1_back_29 : decode cX1_back 29 = .ok (.getfield 65, 3) := dk_180 0 65 (dk_at dksX1_back_1 7 rfl rfl)
theorem dX1_back_32 : decode cX1_back 32 = .ok (.getfield 142, 3) := dk_180 0 142 (dk_at dksX1_back_1 10 rfl rfl)
theorem dX1_back_35 : decode cX1_back 35 = .ok (.ireturn, 1) := dk_172 (dk_at dksX1_back_1 13 rfl rfl)
abbrev cX1_count : ByteArray := prog_1_method_67_code
def yX1_count : MethodName := ⟨RX1, "count", "(I)I"⟩
def dkwX1_count_7 : List UInt8 := [172]
abbrev dktX1_count_7 : List UInt8 := dkwX1_count_7 ++ []
def dkwX1_count_6 : List UInt8 := [180, 0, 75, 182, 0, 135, 172, 42, 180, 0, 90, 172, 42, 180, 0, 54, 180, 1, 253, 182, 0, 135, 172, 2]
abbrev dktX1_count_6 : List UInt8 := dkwX1_count_6 ++ dktX1_count_7
def dkwX1_count_5 : List UInt8 := [180, 0, 54, 180, 1, 248, 182, 0, 135, 172, 42, 180, 0, 54, 180, 1, 251, 182, 0, 135, 172, 42]
abbrev dktX1_count_5 : List UInt8 := dkwX1_count_5 ++ dktX1_count_6
def dkwX1_count_4 : List UInt8 := [180, 0, 54, 180, 1, 72, 172, 42, 180, 0, 54, 180, 1, 246, 172, 42, 180, 0, 54, 180, 1, 83, 172, 42]
abbrev dktX1_count_4 : List UInt8 := dkwX1_count_4 ++ dktX1_count_5
def dkwX1_count_3 : List UInt8 := [182, 0, 135, 172, 42, 180, 0, 65, 180, 1, 242, 182, 1, 212, 172, 42, 180, 0, 65, 180, 1, 45, 172, 42]
abbrev dktX1_count_3 : List UInt8 := dkwX1_count_3 ++ dktX1_count_4
def dkwX1_count_2 : List UInt8 := [42, 180, 0, 54, 182, 0, 128, 172, 42, 180, 0, 65, 180, 0, 142, 172, 42, 180, 0, 65, 180, 0, 132]
abbrev dktX1_count_2 : List UInt8 := dkwX1_count_2 ++ dktX1_count_3
def dkwX1_count_1 : List UInt8 := [170, 0, 0, 0, 0, 0, 183, 0, 0, 0, 0, 0, 0, 0, 12, 0, 0, 0, 67, 0, 0, 0, 75, 0, 0, 0, 83, 0, 0, 0, 94, 0, 0, 0, 105, 0, 0, 0, 113, 0, 0, 0, 121, 0, 0, 0, 129, 0, 0, 0, 137, 0, 0, 0, 148, 0, 0, 0, 159, 0, 0, 0, 167, 0, 0, 0, 172]
abbrev dktX1_count_1 : List UInt8 := dkwX1_count_1 ++ dktX1_count_2
def dkwX1_count_0 : List UInt8 := [27]
abbrev dktX1_count_0 : List UInt8 := dkwX1_count_0 ++ dktX1_count_1
theorem dksX1_count_0 : cX1_count.data.toList.drop 0 = dktX1_count_0 := by decide +kernel
theorem dksX1_count_1 : cX1_count.data.toList.drop 1 = dktX1_count_1 := dk_seg dksX1_count_0 1 rfl rfl
theorem dksX1_count_2 : cX1_count.data.toList.drop 68 = dktX1_count_2 := dk_seg dksX1_count_1 67 rfl rfl
theorem dksX1_count_3 : cX1_count.data.toList.drop 91 = dktX1_count_3 := dk_seg dksX1_count_2 23 rfl rfl
theorem dksX1_count_4 : cX1_count.data.toList.drop 115 = dktX1_count_4 := dk_seg dksX1_count_3 24 rfl rfl
theorem dksX1_count_5 : cX1_count.data.toList.drop 139 = dktX1_count_5 := dk_seg dksX1_count_4 24 rfl rfl
theorem dksX1_count_6 : cX1_count.data.toList.drop 161 = dktX1_count_6 := dk_seg dksX1_count_5 22 rfl rfl
theorem dksX1_count_7 : cX1_count.data.toList.drop 185 = dktX1_count_7 := dk_seg dksX1_count_6 24 rfl rfl
theorem dX1_count_0 : decode cX1_count 0 = .ok (.iload_n 1, 1) := dk_27 (dk_at dksX1_count_0 0 rfl rfl)
theorem dX1_count_1 : decode cX1_count 1 = .ok (.tableswitch 183 0 12 #[67, 75, 83, 94, 105, 113, 121, 129, 137, 148, 159, 167, 172], 67) := by decide +kernel
theorem dX1_count_68 : decode cX1_count 68 = .ok (.aload_n 0, 1) := dk_42 (dk_at dksX1_count_2 0 rfl rfl)
theorem dX1_count_69 : decode cX1_count 69 = .ok (.getfield 54, 3) := dk_180 0 54 (dk_at dksX1_count_2 1 rfl rfl)
theorem dX1_count_72 : decode cX1_count 72 = .ok (.invokevirtual 128, 3) := dk_182 0 128 (dk_at dksX1_count_2 4 rfl rfl)
theorem dX1_count_75 : decode cX1_count 75 = .ok (.ireturn, 1) := dk_172 (dk_at dksX1_count_2 7 rfl rfl)
theorem dX1_count_76 : decode cX1_count 76 = .ok (.aload_n 0, 1) := dk_42 (dk_at dksX1_count_2 8 rfl rfl)
theorem dX1_count_77 : decode cX1_count 77 = .ok (.getfield 65, 3) := dk_180 0 65 (dk_at dksX1_count_2 9 rfl rfl)
theorem dX1_count_80 : decode cX1_count 80 = .ok (.getfield 142, 3) := dk_180 0 142 (dk_at dksX1_count_2 12 rfl rfl)
theorem dX1_count_83 : decode cX1_count 83 = .ok (.ireturn, 1) := dk_172 (dk_at dksX1_count_2 15 rfl rfl)
theorem dX1_count_84 : decode cX1_count 84 = .ok (.aload_n 0, 1) := dk_42 (dk_at dksX1_count_2 16 rfl rfl)
theorem dX1_count_85 : decode cX1_count 85 = .ok (.getfield 65, 3) := dk_180 0 65 (dk_at dksX1_count_2 17 rfl rfl)
theorem dX1_count_88 : decode cX1_count 88 = .ok (.getfield 132, 3) := dk_180 0 132 (dk_at dksX1_count_2 20 rfl rfl)
theorem dX1_count_91 : decode cX1_count 91 = .ok (.invokevirtual 135, 3) := dk_182 0 135 (dk_at dksX1_count_3 0 rfl rfl)
theorem dX1_count_94 : decode cX1_count 94 = .ok (.ireturn, 1) := dk_172 (dk_at dksX1_count_3 3 rfl rfl)
theorem dX1_count_95 : decode cX1_count 95 = .ok (.aload_n 0, 1) := dk_42 (dk_at dksX1_count_3 4 rfl rfl)
theorem dX1_count_96 : decode cX1_count 96 = .ok (.getfield 65, 3) := dk_180 0 65 (dk_at dksX1_count_3 5 rfl rfl)
theorem dX1_count_99 : decode cX1_count 99 = .ok (.getfield 498, 3) := dk_180 1 242 (dk_at dksX1_count_3 8 rfl rfl)
theorem dX1_count_102 : decode cX1_count 102 = .ok (.invokevirtual 468, 3) := dk_182 1 212 (dk_at dksX1_count_3 11 rfl rfl)
theorem dX1_count_105 : decode cX1_count 105 = .ok (.ireturn, 1) := dk_172 (dk_at dksX1_count_3 14 rfl rfl)
theorem dX1_count_106 : decode cX1_count 106 = .ok (.aload_n 0, 1) := dk_42 (dk_at dksX1_count_3 15 rfl rfl)
theorem dX1_count_107 : decode cX1_count 107 = .ok (.getfield 65, 3) := dk_180 0 65 (dk_at dksX1_count_3 16 rfl rfl)
theorem dX1_count_110 : decode cX1_count 110 = .ok (.getfield 301, 3) := dk_180 1 45 (dk_at dksX1_count_3 19 rfl rfl)
theorem dX1_count_113 : decode cX1_count 113 = .ok (.ireturn, 1) := dk_172 (dk_at dksX1_count_3 22 rfl rfl)
theorem dX1_count_114 : decode cX1_count 114 = .ok (.aload_n 0, 1) := dk_42 (dk_at dksX1_count_3 23 rfl rfl)
theorem dX1_count_115 : decode cX1_count 115 = .ok (.getfield 54, 3) := dk_180 0 54 (dk_at dksX1_count_4 0 rfl rfl)
theorem dX1_count_118 : decode cX1_count 118 = .ok (.getfield 328, 3) := dk_180 1 72 (dk_at dksX1_count_4 3 rfl rfl)
theorem dX1_count_121 : decode cX1_count 121 = .ok (.ireturn, 1) := dk_172 (dk_at dksX1_count_4 6 rfl rfl)
theorem dX1_count_122 : decode cX1_count 122 = .ok (.aload_n 0, 1) := dk_42 (dk_at dksX1_count_4 7 rfl rfl)
theorem dX1_count_123 : decode cX1_count 123 = .ok (.getfield 54, 3) := dk_180 0 54 (dk_at dksX1_count_4 8 rfl rfl)
theorem dX1_count_126 : decode cX1_count 126 = .ok (.getfield 502, 3) := dk_180 1 246 (dk_at dksX1_count_4 11 rfl rfl)
theorem dX1_count_129 : decode cX1_count 129 = .ok (.ireturn, 1) := dk_172 (dk_at dksX1_count_4 14 rfl rfl)
theorem dX1_count_130 : decode cX1_count 130 = .ok (.aload_n 0, 1) := dk_42 (dk_at dksX1_count_4 15 rfl rfl)
theorem dX1_count_131 : decode cX1_count 131 = .ok (.getfield 54, 3) := dk_180 0 54 (dk_at dksX1_count_4 16 rfl rfl)
theorem dX1_count_134 : decode cX1_count 134 = .ok (.getfield 339, 3) := dk_180 1 83 (dk_at dksX1_count_4 19 rfl rfl)
theorem dX1_count_137 : decode cX1_count 137 = .ok (.ireturn, 1) := dk_172 (dk_at dksX1_count_4 22 rfl rfl)
theorem dX1_count_138 : decode cX1_count 138 = .ok (.aload_n 0, 1) := dk_42 (dk_at dksX1_count_4 23 rfl rfl)
theorem dX1_count_139 : decode cX1_count 139 = .ok (.getfield 54, 3) := dk_180 0 54 (dk_at dksX1_count_5 0 rfl rfl)
theorem dX1_count_142 : decode cX1_count 142 = .ok (.getfield 504, 3) := dk_180 1 248 (dk_at dksX1_count_5 3 rfl rfl)
theorem dX1_count_145 : decode cX1_count 145 = .ok (.invokevirtual 135, 3) := dk_182 0 135 (dk_at dksX1_count_5 6 rfl rfl)
theorem dX1_count_148 : decode cX1_count 148 = .ok (.ireturn, 1) := dk_172 (dk_at dksX1_count_5 9 rfl rfl)
theorem dX1_count_149 : decode cX1_count 149 = .ok (.aload_n 0, 1) := dk_42 (dk_at dksX1_count_5 10 rfl rfl)
theorem dX1_count_150 : decode cX1_count 150 = .ok (.getfield 54, 3) := dk_180 0 54 (dk_at dksX1_count_5 11 rfl rfl)
theorem dX1_count_153 : decode cX1_count 153 = .ok (.getfield 507, 3) := dk_180 1 251 (dk_at dksX1_count_5 14 rfl rfl)
theorem dX1_count_156 : decode cX1_count 156 = .ok (.invokevirtual 135, 3) := dk_182 0 135 (dk_at dksX1_count_5 17 rfl rfl)
theorem dX1_count_159 : decode cX1_count 159 = .ok (.ireturn, 1) := dk_172 (dk_at dksX1_count_5 20 rfl rfl)
theorem dX1_count_160 : decode cX1_count 160 = .ok (.aload_n 0, 1) := dk_42 (dk_at dksX1_count_5 21 rfl rfl)
theorem dX1_count_161 : decode cX1_count 161 = .ok (.getfield 75, 3) := dk_180 0 75 (dk_at dksX1_count_6 0 rfl rfl)
theorem dX1_count_164 : decode cX1_count 164 = .ok (.invokevirtual 135, 3) := dk_182 0 135 (dk_at dksX1_count_6 3 rfl rfl)
theorem dX1_count_167 : decode cX1_count 167 = .ok (.ireturn, 1) := dk_172 (dk_at dksX1_count_6 6 rfl rfl)
theorem dX1_count_168 : decode cX1_count 168 = .ok (.aload_n 0, 1) := dk_42 (dk_at dksX1_count_6 7 rfl rfl)
theorem dX1_count_169 : decode cX1_count 169 = .ok (.getfield 90, 3) := dk_180 0 90 (dk_at dksX1_count_6 8 rfl rfl)
theorem dX1_count_172 : decode cX1_count 172 = .ok (.ireturn, 1) := dk_172 (dk_at dksX1_count_6 11 rfl rfl)
theorem dX1_count_173 : decode cX1_count 173 = .ok (.aload_n 0, 1) := dk_42 (dk_at dksX1_count_6 12 rfl rfl)
theorem dX1_count_174 : decode cX1_count 174 = .ok (.getfield 54, 3) := dk_180 0 54 (dk_at dksX1_count_6 13 rfl rfl)
theorem dX1_count_177 : decode cX1_count 177 = .ok (.getfield 509, 3) := dk_180 1 253 (dk_at dksX1_count_6 16 rfl rfl)
theorem dX1_count_180 : decode cX1_count 180 = .ok (.invokevirtual 135, 3) := dk_182 0 135 (dk_at dksX1_count_6 19 rfl rfl)
theorem dX1_count_183 : decode cX1_count 183 = .ok (.ireturn, 1) := dk_172 (dk_at dksX1_count_6 22 rfl rfl)
theorem dX1_count_184 : decode cX1_count 184 = .ok (.iconst (-1), 1) := dk_2 (dk_at dksX1_count_6 23 rfl rfl)
theorem dX1_count_185 : decode cX1_count 185 = .ok (.ireturn, 1) := dk_172 (dk_at dksX1_count_7 0 rfl rfl)
abbrev cX1_trader : ByteArray := prog_1_method_17_code
def yX1_trader : MethodName := ⟨RX1, "trader", "(II)I"⟩
def dkwX1_trader_5 : List UInt8 := [42, 27, 182, 0, 213, 172, 187, 0, 216, 89, 183, 0, 218, 191]
abbrev dktX1_trader_5 : List UInt8 := dkwX1_trader_5 ++ []
def dkwX1_trader_4 : List UInt8 := [180, 0, 207, 27, 46, 172, 45, 180, 0, 210, 2, 160, 0, 8, 16, 254, 167, 0, 7, 45, 180, 0, 210, 172]
abbrev dktX1_trader_4 : List UInt8 := dkwX1_trader_4 ++ dktX1_trader_5
def dkwX1_trader_3 : List UInt8 := [45, 180, 0, 196, 172, 45, 180, 0, 201, 172, 42, 180, 0, 65, 180, 0, 204, 27, 46, 172, 42, 180, 0, 65]
abbrev dktX1_trader_3 : List UInt8 := dkwX1_trader_3 ++ dktX1_trader_4
def dkwX1_trader_2 : List UInt8 := [170, 0, 0, 0, 0, 92, 0, 0, 0, 0, 0, 0, 0, 5, 0, 0, 0, 38, 0, 0, 0, 43, 0, 0, 0, 48, 0, 0, 0, 58, 0, 0, 0, 68, 0, 0, 0, 86]
abbrev dktX1_trader_2 : List UInt8 := dkwX1_trader_2 ++ dktX1_trader_3
def dkwX1_trader_1 : List UInt8 := [78, 28]
abbrev dktX1_trader_1 : List UInt8 := dkwX1_trader_1 ++ dktX1_trader_2
def dkwX1_trader_0 : List UInt8 := [42, 27, 182, 0, 185, 154, 0, 11, 187, 0, 189, 89, 183, 0, 191, 191, 42, 180, 0, 54, 27, 182, 0, 192]
abbrev dktX1_trader_0 : List UInt8 := dkwX1_trader_0 ++ dktX1_trader_1
theorem dksX1_trader_0 : cX1_trader.data.toList.drop 0 = dktX1_trader_0 := by decide +kernel
theorem dksX1_trader_1 : cX1_trader.data.toList.drop 24 = dktX1_trader_1 := dk_seg dksX1_trader_0 24 rfl rfl
theorem dksX1_trader_2 : cX1_trader.data.toList.drop 26 = dktX1_trader_2 := dk_seg dksX1_trader_1 2 rfl rfl
theorem dksX1_trader_3 : cX1_trader.data.toList.drop 64 = dktX1_trader_3 := dk_seg dksX1_trader_2 38 rfl rfl
theorem dksX1_trader_4 : cX1_trader.data.toList.drop 88 = dktX1_trader_4 := dk_seg dksX1_trader_3 24 rfl rfl
theorem dksX1_trader_5 : cX1_trader.data.toList.drop 112 = dktX1_trader_5 := dk_seg dksX1_trader_4 24 rfl rfl
theorem dX1_trader_0 : decode cX1_trader 0 = .ok (.aload_n 0, 1) := dk_42 (dk_at dksX1_trader_0 0 rfl rfl)
theorem dX1_trader_1 : decode cX1_trader 1 = .ok (.iload_n 1, 1) := dk_27 (dk_at dksX1_trader_0 1 rfl rfl)
theorem dX1_trader_2 : decode cX1_trader 2 = .ok (.invokevirtual 185, 3) := dk_182 0 185 (dk_at dksX1_trader_0 2 rfl rfl)
theorem dX1_trader_5 : decode cX1_trader 5 = .ok (.ifCond .ne 11, 3) := dk_154 0 11 (dk_at dksX1_trader_0 5 rfl rfl)
theorem dX1_trader_8 : decode cX1_trader 8 = .ok (.new 189, 3) := dk_187 0 189 (dk_at dksX1_trader_0 8 rfl rfl)
theorem dX1_trader_11 : decode cX1_trader 11 = .ok (.dup, 1) := dk_89 (dk_at dksX1_trader_0 11 rfl rfl)
theorem dX1_trader_12 : decode cX1_trader 12 = .ok (.invokespecial 191, 3) := dk_183 0 191 (dk_at dksX1_trader_0 12 rfl rfl)
theorem dX1_trader_15 : decode cX1_trader 15 = .ok (.athrow, 1) := dk_191 (dk_at dksX1_trader_0 15 rfl rfl)
theorem dX1_trader_16 : decode cX1_trader 16 = .ok (.aload_n 0, 1) := dk_42 (dk_at dksX1_trader_0 16 rfl rfl)
theorem dX1_trader_17 : decode cX1_trader 17 = .ok (.getfield 54, 3) := dk_180 0 54 (dk_at dksX1_trader_0 17 rfl rfl)
theorem dX1_trader_20 : decode cX1_trader 20 = .ok (.iload_n 1, 1) := dk_27 (dk_at dksX1_trader_0 20 rfl rfl)
theorem dX1_trader_21 : decode cX1_trader 21 = .ok (.invokevirtual 192, 3) := dk_182 0 192 (dk_at dksX1_trader_0 21 rfl rfl)
theorem dX1_trader_24 : decode cX1_trader 24 = .ok (.astore_n 3, 1) := dk_78 (dk_at dksX1_trader_1 0 rfl rfl)
theorem dX1_trader_25 : decode cX1_trader 25 = .ok (.iload_n 2, 1) := dk_28 (dk_at dksX1_trader_1 1 rfl rfl)
theorem dX1_trader_26 : decode cX1_trader 26 = .ok (.tableswitch 92 0 5 #[38, 43, 48, 58, 68, 86], 38) := by decide +kernel
theorem dX1_trader_64 : decode cX1_trader 64 = .ok (.aload_n 3, 1) := dk_45 (dk_at dksX1_trader_3 0 rfl rfl)
theorem dX1_trader_65 : decode cX1_trader 65 = .ok (.getfield 196, 3) := dk_180 0 196 (dk_at dksX1_trader_3 1 rfl rfl)
theorem dX1_trader_68 : decode cX1_trader 68 = .ok (.ireturn, 1) := dk_172 (dk_at dksX1_trader_3 4 rfl rfl)
theorem dX1_trader_69 : decode cX1_trader 69 = .ok (.aload_n 3, 1) := dk_45 (dk_at dksX1_trader_3 5 rfl rfl)
theorem dX1_trader_70 : decode cX1_trader 70 = .ok (.getfield 201, 3) := dk_180 0 201 (dk_at dksX1_trader_3 6 rfl rfl)
theorem dX1_trader_73 : decode cX1_trader 73 = .ok (.ireturn, 1) := dk_172 (dk_at dksX1_trader_3 9 rfl rfl)
theorem dX1_trader_74 : decode cX1_trader 74 = .ok (.aload_n 0, 1) := dk_42 (dk_at dksX1_trader_3 10 rfl rfl)
theorem dX1_trader_75 : decode cX1_trader 75 = .ok (.getfield 65, 3) := dk_180 0 65 (dk_at dksX1_trader_3 11 rfl rfl)
theorem dX1_trader_78 : decode cX1_trader 78 = .ok (.getfield 204, 3) := dk_180 0 204 (dk_at dksX1_trader_3 14 rfl rfl)
theorem dX1_trader_81 : decode cX1_trader 81 = .ok (.iload_n 1, 1) := dk_27 (dk_at dksX1_trader_3 17 rfl rfl)
theorem dX1_trader_82 : decode cX1_trader 82 = .ok (.iaload, 1) := dk_46 (dk_at dksX1_trader_3 18 rfl rfl)
theorem dX1_trader_83 : decode cX1_trader 83 = .ok (.ireturn, 1) := dk_172 (dk_at dksX1_trader_3 19 rfl rfl)
theorem dX1_trader_84 : decode cX1_trader 84 = .ok (.aload_n 0, 1) := dk_42 (dk_at dksX1_trader_3 20 rfl rfl)
theorem dX1_trader_85 : decode cX1_trader 85 = .ok (.getfield 65, 3) := dk_180 0 65 (dk_at dksX1_trader_3 21 rfl rfl)
theorem dX1_trader_88 : decode cX1_trader 88 = .ok (.getfield 207, 3) := dk_180 0 207 (dk_at dksX1_trader_4 0 rfl rfl)
theorem dX1_trader_91 : decode cX1_trader 91 = .ok (.iload_n 1, 1) := dk_27 (dk_at dksX1_trader_4 3 rfl rfl)
theorem dX1_trader_92 : decode cX1_trader 92 = .ok (.iaload, 1) := dk_46 (dk_at dksX1_trader_4 4 rfl rfl)
theorem dX1_trader_93 : decode cX1_trader 93 = .ok (.ireturn, 1) := dk_172 (dk_at dksX1_trader_4 5 rfl rfl)
theorem dX1_trader_94 : decode cX1_trader 94 = .ok (.aload_n 3, 1) := dk_45 (dk_at dksX1_trader_4 6 rfl rfl)
theorem dX1_trader_95 : decode cX1_trader 95 = .ok (.getfield 210, 3) := dk_180 0 210 (dk_at dksX1_trader_4 7 rfl rfl)
theorem dX1_trader_98 : decode cX1_trader 98 = .ok (.iconst (-1), 1) := dk_2 (dk_at dksX1_trader_4 10 rfl rfl)
theorem dX1_trader_99 : decode cX1_trader 99 = .ok (.if_icmp .ne 8, 3) := dk_160 0 8 (dk_at dksX1_trader_4 11 rfl rfl)
theorem dX1_trader_102 : decode cX1_trader 102 = .ok (.bipush (-2), 2) := dk_16 254 (dk_at dksX1_trader_4 14 rfl rfl)
theorem dX1_trader_104 : decode cX1_trader 104 = .ok (.goto 7, 3) := dk_167 0 7 (dk_at dksX1_trader_4 16 rfl rfl)
theorem dX1_trader_107 : decode cX1_trader 107 = .ok (.aload_n 3, 1) := dk_45 (dk_at dksX1_trader_4 19 rfl rfl)
theorem dX1_trader_108 : decode cX1_trader 108 = .ok (.getfield 210, 3) := dk_180 0 210 (dk_at dksX1_trader_4 20 rfl rfl)
theorem dX1_trader_111 : decode cX1_trader 111 = .ok (.ireturn, 1) := dk_172 (dk_at dksX1_trader_4 23 rfl rfl)
theorem dX1_trader_112 : decode cX1_trader 112 = .ok (.aload_n 0, 1) := dk_42 (dk_at dksX1_trader_5 0 rfl rfl)
theorem dX1_trader_113 : decode cX1_trader 113 = .ok (.iload_n 1, 1) := dk_27 (dk_at dksX1_trader_5 1 rfl rfl)
theorem dX1_trader_114 : decode cX1_trader 114 = .ok (.invokevirtual 213, 3) := dk_182 0 213 (dk_at dksX1_trader_5 2 rfl rfl)
theorem dX1_trader_117 : decode cX1_trader 117 = .ok (.ireturn, 1) := dk_172 (dk_at dksX1_trader_5 5 rfl rfl)
theorem dX1_trader_118 : decode cX1_trader 118 = .ok (.new 216, 3) := dk_187 0 216 (dk_at dksX1_trader_5 6 rfl rfl)
theorem dX1_trader_121 : decode cX1_trader 121 = .ok (.dup, 1) := dk_89 (dk_at dksX1_trader_5 9 rfl rfl)
theorem dX1_trader_122 : decode cX1_trader 122 = .ok (.invokespecial 218, 3) := dk_183 0 218 (dk_at dksX1_trader_5 10 rfl rfl)
theorem dX1_trader_125 : decode cX1_trader 125 = .ok (.athrow, 1) := dk_191 (dk_at dksX1_trader_5 13 rfl rfl)
abbrev cX1_open : ByteArray := prog_1_method_16_code
def yX1_open : MethodName := ⟨RX1, "open", "(I)I"⟩
def dkwX1_open_2 : List UInt8 := [180, 0, 182, 120, 128, 61, 167, 255, 216, 28, 172]
abbrev dktX1_open_2 : List UInt8 := dkwX1_open_2 ++ []
def dkwX1_open_1 : List UInt8 := [185, 0, 174, 1, 0, 192, 0, 146, 58, 4, 42, 25, 4, 182, 0, 178, 27, 160, 0, 13, 28, 4, 25, 4]
abbrev dktX1_open_1 : List UInt8 := dkwX1_open_1 ++ dktX1_open_2
def dkwX1_open_0 : List UInt8 := [3, 61, 42, 180, 0, 65, 180, 0, 161, 182, 0, 164, 78, 45, 185, 0, 168, 1, 0, 153, 0, 37, 45]
abbrev dktX1_open_0 : List UInt8 := dkwX1_open_0 ++ dktX1_open_1
theorem dksX1_open_0 : cX1_open.data.toList.drop 0 = dktX1_open_0 := by decide +kernel
theorem dksX1_open_1 : cX1_open.data.toList.drop 23 = dktX1_open_1 := dk_seg dksX1_open_0 23 rfl rfl
theorem dksX1_open_2 : cX1_open.data.toList.drop 47 = dktX1_open_2 := dk_seg dksX1_open_1 24 rfl rfl
theorem dX1_open_0 : decode cX1_open 0 = .ok (.iconst 0, 1) := dk_3 (dk_at dksX1_open_0 0 rfl rfl)
theorem dX1_open_1 : decode cX1_open 1 = .ok (.istore_n 2, 1) := dk_61 (dk_at dksX1_open_0 1 rfl rfl)
theorem dX1_open_2 : decode cX1_open 2 = .ok (.aload_n 0, 1) := dk_42 (dk_at dksX1_open_0 2 rfl rfl)
theorem dX1_open_3 : decode cX1_open 3 = .ok (.getfield 65, 3) := dk_180 0 65 (dk_at dksX1_open_0 3 rfl rfl)
theorem dX1_open_6 : decode cX1_open 6 = .ok (.getfield 161, 3) := dk_180 0 161 (dk_at dksX1_open_0 6 rfl rfl)
theorem dX1_open_9 : decode cX1_open 9 = .ok (.invokevirtual 164, 3) := dk_182 0 164 (dk_at dksX1_open_0 9 rfl rfl)
theorem dX1_open_12 : decode cX1_open 12 = .ok (.astore_n 3, 1) := dk_78 (dk_at dksX1_open_0 12 rfl rfl)
theorem dX1_open_13 : decode cX1_open 13 = .ok (.aload_n 3, 1) := dk_45 (dk_at dksX1_open_0 13 rfl rfl)
theorem dX1_open_14 : decode cX1_open 14 = .ok (.invokeinterface 168 1, 5) := by decide +kernel
theorem dX1_open_19 : decode cX1_open 19 = .ok (.ifCond .eq 37, 3) := dk_153 0 37 (dk_at dksX1_open_0 19 rfl rfl)
theorem dX1_open_22 : decode cX1_open 22 = .ok (.aload_n 3, 1) := dk_45 (dk_at dksX1_open_0 22 rfl rfl)
theorem dX1_open_23 : decode cX1_open 23 = .ok (.invokeinterface 174 1, 5) := by decide +kernel
theorem dX1_open_28 : decode cX1_open 28 = .ok (.checkcast 146, 3) := dk_192 0 146 (dk_at dksX1_open_1 5 rfl rfl)
theorem dX1_open_31 : decode cX1_open 31 = .ok (.astore 4, 2) := dk_58 4 (dk_at dksX1_open_1 8 rfl rfl)
theorem dX1_open_33 : decode cX1_open 33 = .ok (.aload_n 0, 1) := dk_42 (dk_at dksX1_open_1 10 rfl rfl)
theorem dX1_open_34 : decode cX1_open 34 = .ok (.aload 4, 2) := dk_25 4 (dk_at dksX1_open_1 11 rfl rfl)
theorem dX1_open_36 : decode cX1_open 36 = .ok (.invokevirtual 178, 3) := dk_182 0 178 (dk_at dksX1_open_1 13 rfl rfl)
theorem dX1_open_39 : decode cX1_open 39 = .ok (.iload_n 1, 1) := dk_27 (dk_at dksX1_open_1 16 rfl rfl)
theorem dX1_open_40 : decode cX1_open 40 = .ok (.if_icmp .ne 13, 3) := dk_160 0 13 (dk_at dksX1_open_1 17 rfl rfl)
theorem dX1_open_43 : decode cX1_open 43 = .ok (.iload_n 2, 1) := dk_28 (dk_at dksX1_open_1 20 rfl rfl)
theorem dX1_open_44 : decode cX1_open 44 = .ok (.iconst 1, 1) := dk_4 (dk_at dksX1_open_1 21 rfl rfl)
theorem dX1_open_45 : decode cX1_open 45 = .ok (.aload 4, 2) := dk_25 4 (dk_at dksX1_open_1 22 rfl rfl)
theorem dX1_open_47 : decode cX1_open 47 = .ok (.getfield 182, 3) := dk_180 0 182 (dk_at dksX1_open_2 0 rfl rfl)
theorem dX1_open_50 : decode cX1_open 50 = .ok (.ishl, 1) := dk_120 (dk_at dksX1_open_2 3 rfl rfl)
theorem dX1_open_51 : decode cX1_open 51 = .ok (.ior, 1) := dk_128 (dk_at dksX1_open_2 4 rfl rfl)
theorem dX1_open_52 : decode cX1_open 52 = .ok (.istore_n 2, 1) := dk_61 (dk_at dksX1_open_2 5 rfl rfl)
theorem dX1_open_53 : decode cX1_open 53 = .ok (.goto (-40), 3) := dk_167 255 216 (dk_at dksX1_open_2 6 rfl rfl)
theorem dX1_open_56 : decode cX1_open 56 = .ok (.iload_n 2, 1) := dk_28 (dk_at dksX1_open_2 9 rfl rfl)
theorem dX1_open_57 : decode cX1_open 57 = .ok (.ireturn, 1) := dk_172 (dk_at dksX1_open_2 10 rfl rfl)
theorem q123 : (Jvm.Cond.initialized "ExemptDesk") ∈ lw_all := lw_g (lw_at lw_m1 1 rfl) rfl
theorem q177 : (Jvm.Cond.instantiable "ExemptDesk" (14 : Nat)) ∈ lw_all := lw_g (lw_at lw_m1 55 rfl) rfl
theorem q179 : (Jvm.Cond.instanceMethod ({ cls := "ExemptDesk", name := "<init>", desc := "()V" } : Jvm.MethodName)) ∈ lw_all := lw_g (lw_at lw_m1 57 rfl) rfl
theorem q180 : (Jvm.Cond.code ({ cls := "ExemptDesk", name := "<init>", desc := "()V" } : Jvm.MethodName) prog_1_method_4_code (1 : Nat) (Option.none : Option Jvm.ClassFile.FieldType)) ∈ lw_all := lw_g (lw_at lw_m1 58 rfl) rfl
theorem q181 : (Jvm.Cond.methodLink "ExemptDesk" (5 : Nat) ({ cls := "java/lang/Object", name := "<init>", desc := "()V" } : Jvm.MethodName)) ∈ lw_all := lw_g (lw_at lw_m1 59 rfl) rfl
theorem q184 : (Jvm.Cond.classLink "ExemptDesk" (11 : Nat) "ExemptDesk$Way") ∈ lw_all := lw_g (lw_at lw_m1 62 rfl) rfl
theorem q186 : (Jvm.Cond.methodLink "ExemptDesk" (15 : Nat) ({ cls := "ExemptDesk$Way", name := "<init>", desc := "(I)V" } : Jvm.MethodName)) ∈ lw_all := lw_g (lw_at lw_m1 64 rfl) rfl
theorem q204 : (Jvm.Cond.methodLink "ExemptDesk" (18 : Nat) ({ cls := "java/util/List", name := "of", desc := "(Ljava/lang/Object;Ljava/lang/Object;Ljava/lang/Object;)Ljava/util/List;" } : Jvm.MethodName)) ∈ lw_all := lw_g (lw_at lw_m1 82 rfl) rfl
theorem q217 : (Jvm.Cond.selects "ExemptDesk" ({ cls := "java/lang/Object", name := "getClass", desc := "()Ljava/lang/Class;" } : Jvm.MethodName) ({ cls := "java/lang/Object", name := "getClass", desc := "()Ljava/lang/Class;" } : Jvm.MethodName)) ∈ lw_all := lw_g (lw_at lw_m1 95 rfl) rfl
theorem q295 : (Jvm.Cond.classLink "ExemptDesk" (28 : Nat) "ExemptDesk$Method") ∈ lw_all := lw_g (lw_at lw_m1 173 rfl) rfl
theorem q297 : (Jvm.Cond.methodLink "ExemptDesk" (30 : Nat) ({ cls := "ExemptDesk$Method", name := "<init>", desc := "(I)V" } : Jvm.MethodName)) ∈ lw_all := lw_g (lw_at lw_m1 175 rfl) rfl
theorem q320 : (Jvm.Cond.classLink "ExemptDesk" (38 : Nat) "ExemptDesk$Reader") ∈ lw_all := lw_g (lw_at lw_m1 198 rfl) rfl
theorem q322 : (Jvm.Cond.methodLinkNest "ExemptDesk" (40 : Nat) ({ cls := "ExemptDesk$Reader", name := "<init>", desc := "(LExemptDesk;)V" } : Jvm.MethodName) "ExemptDesk") ∈ lw_tbl := lw_at lw_m1 200 rfl
theorem q349 : (Jvm.Cond.classLink "ExemptDesk" (47 : Nat) "ExemptDesk$Text") ∈ lw_all := lw_g (lw_at lw_m1 227 rfl) rfl
theorem q351 : (Jvm.Cond.methodLinkNest "ExemptDesk" (49 : Nat) ({ cls := "ExemptDesk$Text", name := "<init>", desc := "()V" } : Jvm.MethodName) "ExemptDesk") ∈ lw_tbl := lw_at lw_m1 229 rfl
theorem q390 : (Jvm.Cond.fieldLinkNest "ExemptDesk" (504 : Nat) "ExemptDesk$Text" "sales" "Ljava/util/LinkedList;" "ExemptDesk") ∈ lw_tbl := lw_at lw_m2 28 rfl
theorem q394 : (Jvm.Cond.fieldLinkNest "ExemptDesk" (507 : Nat) "ExemptDesk$Text" "buys" "Ljava/util/LinkedList;" "ExemptDesk") ∈ lw_tbl := lw_at lw_m2 32 rfl
theorem q398 : (Jvm.Cond.fieldLinkNest "ExemptDesk" (509 : Nat) "ExemptDesk$Text" "assets" "Ljava/util/LinkedList;" "ExemptDesk") ∈ lw_tbl := lw_at lw_m2 36 rfl
theorem q402 : (Jvm.Cond.fieldLinkNest "ExemptDesk" (502 : Nat) "ExemptDesk$Text" "way" "I" "ExemptDesk") ∈ lw_tbl := lw_at lw_m2 40 rfl
theorem q406 : (Jvm.Cond.fieldLinkNest "ExemptDesk" (328 : Nat) "ExemptDesk$Text" "step" "I" "ExemptDesk") ∈ lw_tbl := lw_at lw_m2 44 rfl
theorem q410 : (Jvm.Cond.fieldLinkNest "ExemptDesk" (339 : Nat) "ExemptDesk$Text" "limit" "I" "ExemptDesk") ∈ lw_tbl := lw_at lw_m2 48 rfl
theorem q413 : (Jvm.Cond.fieldLinkNest "ExemptDesk" (480 : Nat) "ExemptDesk$Text" "seed" "I" "ExemptDesk") ∈ lw_tbl := lw_at lw_m2 51 rfl
theorem q414 : (Jvm.Cond.fieldLinkNest "ExemptDesk" (121 : Nat) "ExemptDesk$Text" "lines" "I" "ExemptDesk") ∈ lw_tbl := lw_at lw_m2 52 rfl
theorem q435 : (Jvm.Cond.methodLink "ExemptDesk" (50 : Nat) ({ cls := "ExemptDesk$Text", name := "closed", desc := "()LExemptDesk$Text;" } : Jvm.MethodName)) ∈ lw_all := lw_g (lw_at lw_m2 73 rfl) rfl
theorem q442 : (Jvm.Cond.classLink "ExemptDesk" (58 : Nat) "ExemptDesk$Books") ∈ lw_all := lw_g (lw_at lw_m2 80 rfl) rfl
theorem q444 : (Jvm.Cond.methodLink "ExemptDesk" (60 : Nat) ({ cls := "ExemptDesk$Books", name := "<init>", desc := "(LExemptDesk;)V" } : Jvm.MethodName)) ∈ lw_all := lw_g (lw_at lw_m2 82 rfl) rfl
theorem q509 : (Jvm.Cond.fieldLinkNest "ExemptDesk" (267 : Nat) "ExemptDesk$Sums" "of" "[J" "ExemptDesk") ∈ lw_tbl := lw_at lw_m2 147 rfl
theorem q514 : (Jvm.Cond.fieldLinkNest "ExemptDesk" (263 : Nat) "ExemptDesk$Books" "sums" "[[LExemptDesk$Sums;" "ExemptDesk") ∈ lw_tbl := lw_at lw_m2 152 rfl
theorem q517 : (Jvm.Cond.fieldLinkNest "ExemptDesk" (314 : Nat) "ExemptDesk$Books" "recovered" "[[I" "ExemptDesk") ∈ lw_tbl := lw_at lw_m2 155 rfl
theorem q519 : (Jvm.Cond.fieldLinkNest "ExemptDesk" (428 : Nat) "ExemptDesk$Books" "annual" "[[I" "ExemptDesk") ∈ lw_tbl := lw_at lw_m2 157 rfl
theorem q521 : (Jvm.Cond.fieldLinkNest "ExemptDesk" (486 : Nat) "ExemptDesk$Books" "trued" "[[I" "ExemptDesk") ∈ lw_tbl := lw_at lw_m2 159 rfl
theorem q523 : (Jvm.Cond.fieldLinkNest "ExemptDesk" (204 : Nat) "ExemptDesk$Books" "own" "[I" "ExemptDesk") ∈ lw_tbl := lw_at lw_m2 161 rfl
theorem q525 : (Jvm.Cond.fieldLinkNest "ExemptDesk" (207 : Nat) "ExemptDesk$Books" "all" "[I" "ExemptDesk") ∈ lw_tbl := lw_at lw_m2 163 rfl
theorem q527 : (Jvm.Cond.fieldLinkNest "ExemptDesk" (391 : Nat) "ExemptDesk$Books" "totals" "[[I" "ExemptDesk") ∈ lw_tbl := lw_at lw_m2 165 rfl
theorem q529 : (Jvm.Cond.fieldLinkNest "ExemptDesk" (132 : Nat) "ExemptDesk$Books" "assets" "Ljava/util/LinkedList;" "ExemptDesk") ∈ lw_tbl := lw_at lw_m2 167 rfl
theorem q531 : (Jvm.Cond.fieldLinkNest "ExemptDesk" (161 : Nat) "ExemptDesk$Books" "standing" "Ljava/util/LinkedList;" "ExemptDesk") ∈ lw_tbl := lw_at lw_m2 169 rfl
theorem q533 : (Jvm.Cond.fieldLinkNest "ExemptDesk" (379 : Nat) "ExemptDesk$Books" "booked" "Ljava/util/ArrayDeque;" "ExemptDesk") ∈ lw_tbl := lw_at lw_m2 171 rfl
theorem q535 : (Jvm.Cond.fieldLinkNest "ExemptDesk" (498 : Nat) "ExemptDesk$Books" "shut" "Ljava/util/BitSet;" "ExemptDesk") ∈ lw_tbl := lw_at lw_m2 173 rfl
theorem q538 : (Jvm.Cond.fieldLinkNest "ExemptDesk" (142 : Nat) "ExemptDesk$Books" "now" "I" "ExemptDesk") ∈ lw_tbl := lw_at lw_m2 176 rfl
theorem q540 : (Jvm.Cond.fieldLinkNest "ExemptDesk" (301 : Nat) "ExemptDesk$Books" "entries" "I" "ExemptDesk") ∈ lw_tbl := lw_at lw_m2 178 rfl
theorem q575 : (Jvm.Cond.methodLink "ExemptDesk" (61 : Nat) ({ cls := "ExemptDesk$Books", name := "begin", desc := "()LExemptDesk$Books;" } : Jvm.MethodName)) ∈ lw_all := lw_g (lw_at lw_m2 213 rfl) rfl
theorem q1128 : (Jvm.Cond.fieldLinkNest "ExemptDesk" (182 : Nat) "ExemptDesk$Asset" "number" "I" "ExemptDesk") ∈ lw_tbl := lw_at lw_m5 46 rfl
theorem q1131 : (Jvm.Cond.fieldLinkNest "ExemptDesk" (229 : Nat) "ExemptDesk$Asset" "tax" "I" "ExemptDesk") ∈ lw_tbl := lw_at lw_m5 49 rfl
theorem q1134 : (Jvm.Cond.fieldLinkNest "ExemptDesk" (232 : Nat) "ExemptDesk$Asset" "intervals" "I" "ExemptDesk") ∈ lw_tbl := lw_at lw_m5 52 rfl
theorem q1137 : (Jvm.Cond.fieldLinkNest "ExemptDesk" (235 : Nat) "ExemptDesk$Asset" "bought" "I" "ExemptDesk") ∈ lw_tbl := lw_at lw_m5 55 rfl
theorem q1140 : (Jvm.Cond.fieldLinkNest "ExemptDesk" (364 : Nat) "ExemptDesk$Asset" "first" "I" "ExemptDesk") ∈ lw_tbl := lw_at lw_m5 58 rfl
theorem q1142 : (Jvm.Cond.fieldLinkNest "ExemptDesk" (154 : Nat) "ExemptDesk$Asset" "owner" "[I" "ExemptDesk") ∈ lw_tbl := lw_at lw_m5 60 rfl
theorem q1146 : (Jvm.Cond.fieldLinkNest "ExemptDesk" (367 : Nat) "ExemptDesk$Asset" "worth" "[I" "ExemptDesk") ∈ lw_tbl := lw_at lw_m5 64 rfl
theorem q1149 : (Jvm.Cond.fieldLinkNest "ExemptDesk" (370 : Nat) "ExemptDesk$Asset" "adjusted" "[I" "ExemptDesk") ∈ lw_tbl := lw_at lw_m5 67 rfl
theorem q1152 : (Jvm.Cond.fieldLinkNest "ExemptDesk" (226 : Nat) "ExemptDesk$Asset" "use" "I" "ExemptDesk") ∈ lw_tbl := lw_at lw_m5 70 rfl
theorem q1154 : (Jvm.Cond.fieldLinkNest "ExemptDesk" (238 : Nat) "ExemptDesk$Asset" "base" "I" "ExemptDesk") ∈ lw_tbl := lw_at lw_m5 72 rfl
theorem q1157 : (Jvm.Cond.fieldLinkNest "ExemptDesk" (241 : Nat) "ExemptDesk$Asset" "sold" "I" "ExemptDesk") ∈ lw_tbl := lw_at lw_m5 75 rfl
theorem q1161 : (Jvm.Cond.fieldLinkNest "ExemptDesk" (290 : Nat) "ExemptDesk$Asset" "cap" "I" "ExemptDesk") ∈ lw_tbl := lw_at lw_m5 79 rfl
theorem q1163 : (Jvm.Cond.fieldLinkNest "ExemptDesk" (151 : Nat) "ExemptDesk$Asset" "nextOwner" "I" "ExemptDesk") ∈ lw_tbl := lw_at lw_m5 81 rfl
theorem q1167 : (Jvm.Cond.fieldLinkNest "ExemptDesk" (376 : Nat) "ExemptDesk$Asset" "last" "I" "ExemptDesk") ∈ lw_tbl := lw_at lw_m5 85 rfl
theorem q1170 : (Jvm.Cond.fieldLinkNest "ExemptDesk" (361 : Nat) "ExemptDesk$Asset" "through" "I" "ExemptDesk") ∈ lw_tbl := lw_at lw_m5 88 rfl
theorem q1175 : (Jvm.Cond.fieldLinkNest "ExemptDesk" (145 : Nat) "ExemptDesk$Asset" "isShut" "Z" "ExemptDesk") ∈ lw_tbl := lw_at lw_m5 93 rfl
theorem q1244 : (Jvm.Cond.classLink "ExemptDesk" (72 : Nat) "java/util/LinkedList") ∈ lw_all := lw_g (lw_at lw_m5 162 rfl) rfl
theorem q1245 : (Jvm.Cond.methodLink "ExemptDesk" (74 : Nat) ({ cls := "java/util/LinkedList", name := "<init>", desc := "()V" } : Jvm.MethodName)) ∈ lw_all := lw_g (lw_at lw_m5 163 rfl) rfl
theorem q1246 : (Jvm.Cond.classLink "ExemptDesk" (79 : Nat) "ExemptDesk$Sums") ∈ lw_all := lw_g (lw_at lw_m5 164 rfl) rfl
theorem q1247 : (Jvm.Cond.methodLinkNest "ExemptDesk" (81 : Nat) ({ cls := "ExemptDesk$Sums", name := "<init>", desc := "()V" } : Jvm.MethodName) "ExemptDesk") ∈ lw_tbl := lw_at lw_m5 165 rfl
theorem q1248 : (Jvm.Cond.fieldLink "ExemptDesk" (24 : Nat) "ExemptDesk" "ways" "Ljava/util/List;") ∈ lw_all := lw_g (lw_at lw_m5 166 rfl) rfl
theorem q1250 : (Jvm.Cond.fieldLink "ExemptDesk" (31 : Nat) "ExemptDesk" "methods" "Ljava/util/List;") ∈ lw_all := lw_g (lw_at lw_m5 168 rfl) rfl
theorem q1253 : (Jvm.Cond.fieldLink "ExemptDesk" (34 : Nat) "ExemptDesk" "tape" "[B") ∈ lw_all := lw_g (lw_at lw_m5 171 rfl) rfl
theorem q1254 : (Jvm.Cond.fieldLink "ExemptDesk" (43 : Nat) "ExemptDesk" "reader" "LExemptDesk$Reader;") ∈ lw_all := lw_g (lw_at lw_m5 172 rfl) rfl
theorem q1256 : (Jvm.Cond.fieldLink "ExemptDesk" (54 : Nat) "ExemptDesk" "told" "LExemptDesk$Text;") ∈ lw_all := lw_g (lw_at lw_m5 174 rfl) rfl
theorem q1257 : (Jvm.Cond.fieldLink "ExemptDesk" (65 : Nat) "ExemptDesk" "books" "LExemptDesk$Books;") ∈ lw_all := lw_g (lw_at lw_m5 175 rfl) rfl
theorem q1258 : (Jvm.Cond.fieldLink "ExemptDesk" (69 : Nat) "ExemptDesk" "aside" "LExemptDesk$Books;") ∈ lw_all := lw_g (lw_at lw_m5 176 rfl) rfl
theorem q1259 : (Jvm.Cond.fieldLink "ExemptDesk" (75 : Nat) "ExemptDesk" "pasts" "Ljava/util/LinkedList;") ∈ lw_all := lw_g (lw_at lw_m5 177 rfl) rfl
theorem q1260 : (Jvm.Cond.fieldLink "ExemptDesk" (118 : Nat) "ExemptDesk" "image" "LExemptDesk$Books;") ∈ lw_all := lw_g (lw_at lw_m5 178 rfl) rfl
theorem q1261 : (Jvm.Cond.fieldLink "ExemptDesk" (82 : Nat) "ExemptDesk" "both" "LExemptDesk$Sums;") ∈ lw_all := lw_g (lw_at lw_m5 179 rfl) rfl
theorem q1262 : (Jvm.Cond.fieldLink "ExemptDesk" (90 : Nat) "ExemptDesk" "taped" "I") ∈ lw_all := lw_g (lw_at lw_m5 180 rfl) rfl
theorem q1263 : (Jvm.Cond.fieldLink "ExemptDesk" (100 : Nat) "ExemptDesk" "faultKind" "I") ∈ lw_all := lw_g (lw_at lw_m5 181 rfl) rfl
theorem q1264 : (Jvm.Cond.fieldLink "ExemptDesk" (86 : Nat) "ExemptDesk" "faultPlace" "I") ∈ lw_all := lw_g (lw_at lw_m5 182 rfl) rfl
theorem q1265 : (Jvm.Cond.fieldLink "ExemptDesk" (473 : Nat) "ExemptDesk" "drawn" "I") ∈ lw_all := lw_g (lw_at lw_m5 183 rfl) rfl
theorem q1266 : (Jvm.Cond.laysFinal "ExemptDesk" "ExemptDesk" "ways" "Ljava/util/List;") ∈ lw_all := lw_g (lw_at lw_m5 184 rfl) rfl
theorem q1267 : (Jvm.Cond.soleField "ExemptDesk" "ways") ∈ lw_all := lw_g (lw_at lw_m5 185 rfl) rfl
theorem q1268 : (Jvm.Cond.laysFinal "ExemptDesk" "ExemptDesk" "methods" "Ljava/util/List;") ∈ lw_all := lw_g (lw_at lw_m5 186 rfl) rfl
theorem q1269 : (Jvm.Cond.soleField "ExemptDesk" "methods") ∈ lw_all := lw_g (lw_at lw_m5 187 rfl) rfl
theorem q1270 : (Jvm.Cond.laysFinal "ExemptDesk" "ExemptDesk" "tape" "[B") ∈ lw_all := lw_g (lw_at lw_m5 188 rfl) rfl
theorem q1271 : (Jvm.Cond.soleField "ExemptDesk" "tape") ∈ lw_all := lw_g (lw_at lw_m5 189 rfl) rfl
theorem q1272 : (Jvm.Cond.laysFinal "ExemptDesk" "ExemptDesk" "reader" "LExemptDesk$Reader;") ∈ lw_all := lw_g (lw_at lw_m5 190 rfl) rfl
theorem q1273 : (Jvm.Cond.soleField "ExemptDesk" "reader") ∈ lw_all := lw_g (lw_at lw_m5 191 rfl) rfl
theorem q1274 : (Jvm.Cond.lays "ExemptDesk" "ExemptDesk" "told" "LExemptDesk$Text;") ∈ lw_all := lw_g (lw_at lw_m5 192 rfl) rfl
theorem q1275 : (Jvm.Cond.soleField "ExemptDesk" "told") ∈ lw_all := lw_g (lw_at lw_m5 193 rfl) rfl
theorem q1276 : (Jvm.Cond.lays "ExemptDesk" "ExemptDesk" "books" "LExemptDesk$Books;") ∈ lw_all := lw_g (lw_at lw_m5 194 rfl) rfl
theorem q1277 : (Jvm.Cond.soleField "ExemptDesk" "books") ∈ lw_all := lw_g (lw_at lw_m5 195 rfl) rfl
theorem q1278 : (Jvm.Cond.laysFinal "ExemptDesk" "ExemptDesk" "aside" "LExemptDesk$Books;") ∈ lw_all := lw_g (lw_at lw_m5 196 rfl) rfl
theorem q1279 : (Jvm.Cond.soleField "ExemptDesk" "aside") ∈ lw_all := lw_g (lw_at lw_m5 197 rfl) rfl
theorem q1280 : (Jvm.Cond.laysFinal "ExemptDesk" "ExemptDesk" "pasts" "Ljava/util/LinkedList;") ∈ lw_all := lw_g (lw_at lw_m5 198 rfl) rfl
theorem q1281 : (Jvm.Cond.soleField "ExemptDesk" "pasts") ∈ lw_all := lw_g (lw_at lw_m5 199 rfl) rfl
theorem q1282 : (Jvm.Cond.lays "ExemptDesk" "ExemptDesk" "image" "LExemptDesk$Books;") ∈ lw_all := lw_g (lw_at lw_m5 200 rfl) rfl
theorem q1283 : (Jvm.Cond.soleField "ExemptDesk" "image") ∈ lw_all := lw_g (lw_at lw_m5 201 rfl) rfl
theorem q1284 : (Jvm.Cond.laysFinal "ExemptDesk" "ExemptDesk" "both" "LExemptDesk$Sums;") ∈ lw_all := lw_g (lw_at lw_m5 202 rfl) rfl
theorem q1285 : (Jvm.Cond.soleField "ExemptDesk" "both") ∈ lw_all := lw_g (lw_at lw_m5 203 rfl) rfl
theorem q1286 : (Jvm.Cond.lays "ExemptDesk" "ExemptDesk" "taped" "I") ∈ lw_all := lw_g (lw_at lw_m5 204 rfl) rfl
theorem q1287 : (Jvm.Cond.soleField "ExemptDesk" "taped") ∈ lw_all := lw_g (lw_at lw_m5 205 rfl) rfl
theorem q1288 : (Jvm.Cond.lays "ExemptDesk" "ExemptDesk" "faultKind" "I") ∈ lw_all := lw_g (lw_at lw_m5 206 rfl) rfl
theorem q1289 : (Jvm.Cond.soleField "ExemptDesk" "faultKind") ∈ lw_all := lw_g (lw_at lw_m5 207 rfl) rfl
theorem q1290 : (Jvm.Cond.lays "ExemptDesk" "ExemptDesk" "faultPlace" "I") ∈ lw_all := lw_g (lw_at lw_m5 208 rfl) rfl
theorem q1291 : (Jvm.Cond.soleField "ExemptDesk" "faultPlace") ∈ lw_all := lw_g (lw_at lw_m5 209 rfl) rfl
theorem q1292 : (Jvm.Cond.lays "ExemptDesk" "ExemptDesk" "drawn" "I") ∈ lw_all := lw_g (lw_at lw_m5 210 rfl) rfl
theorem q1293 : (Jvm.Cond.soleField "ExemptDesk" "drawn") ∈ lw_all := lw_g (lw_at lw_m5 211 rfl) rfl
theorem q1294 : (Jvm.Cond.superclass "ExemptDesk" "java/lang/Object") ∈ lw_all := lw_g (lw_at lw_m5 212 rfl) rfl
theorem q1296 : (Jvm.Cond.instanceMethod ({ cls := "ExemptDesk", name := "feed", desc := "(IIIII)I" } : Jvm.MethodName)) ∈ lw_all := lw_g (lw_at lw_m5 214 rfl) rfl
theorem q1297 : (Jvm.Cond.selects "ExemptDesk" ({ cls := "ExemptDesk", name := "feed", desc := "(IIIII)I" } : Jvm.MethodName) ({ cls := "ExemptDesk", name := "feed", desc := "(IIIII)I" } : Jvm.MethodName)) ∈ lw_all := lw_g (lw_at lw_m5 215 rfl) rfl
theorem q1298 : (Jvm.Cond.code ({ cls := "ExemptDesk", name := "feed", desc := "(IIIII)I" } : Jvm.MethodName) prog_1_method_5_code (6 : Nat) (Option.some Jvm.ClassFile.FieldType.int)) ∈ lw_all := lw_g (lw_at lw_m5 216 rfl) rfl
theorem q1299 : (Jvm.Cond.methodLink "ExemptDesk" (93 : Nat) ({ cls := "ExemptDesk", name := "put4", desc := "(I)V" } : Jvm.MethodName)) ∈ lw_all := lw_g (lw_at lw_m5 217 rfl) rfl
theorem q1300 : (Jvm.Cond.privateMethod ({ cls := "ExemptDesk", name := "put4", desc := "(I)V" } : Jvm.MethodName)) ∈ lw_tbl := lw_at lw_m5 218 rfl
theorem q1301 : (Jvm.Cond.instanceMethod ({ cls := "ExemptDesk", name := "put4", desc := "(I)V" } : Jvm.MethodName)) ∈ lw_all := lw_g (lw_at lw_m5 219 rfl) rfl
theorem q1302 : (Jvm.Cond.code ({ cls := "ExemptDesk", name := "put4", desc := "(I)V" } : Jvm.MethodName) prog_1_method_6_code (3 : Nat) (Option.none : Option Jvm.ClassFile.FieldType)) ∈ lw_all := lw_g (lw_at lw_m5 220 rfl) rfl
theorem q1304 : (Jvm.Cond.instanceMethod ({ cls := "ExemptDesk", name := "text", desc := "(I)I" } : Jvm.MethodName)) ∈ lw_all := lw_g (lw_at lw_m5 222 rfl) rfl
theorem q1305 : (Jvm.Cond.selects "ExemptDesk" ({ cls := "ExemptDesk", name := "text", desc := "(I)I" } : Jvm.MethodName) ({ cls := "ExemptDesk", name := "text", desc := "(I)I" } : Jvm.MethodName)) ∈ lw_all := lw_g (lw_at lw_m5 223 rfl) rfl
theorem q1306 : (Jvm.Cond.codeWith ({ cls := "ExemptDesk", name := "text", desc := "(I)I" } : Jvm.MethodName) prog_1_method_7_code (3 : Nat) (Option.some Jvm.ClassFile.FieldType.int) [((32 : Nat), (44 : Nat), (47 : Nat), (107 : Nat))]) ∈ lw_all := lw_g (lw_at lw_m5 224 rfl) rfl
theorem q1307 : (Jvm.Cond.classLink "ExemptDesk" (107 : Nat) "ExemptDesk$Wrong") ∈ lw_all := lw_g (lw_at lw_m5 225 rfl) rfl
theorem q1308 : (Jvm.Cond.methodLink "ExemptDesk" (96 : Nat) ({ cls := "ExemptDesk", name := "in", desc := "(JJJ)Z" } : Jvm.MethodName)) ∈ lw_all := lw_g (lw_at lw_m5 226 rfl) rfl
theorem q1309 : (Jvm.Cond.static ({ cls := "ExemptDesk", name := "in", desc := "(JJJ)Z" } : Jvm.MethodName)) ∈ lw_all := lw_g (lw_at lw_m5 227 rfl) rfl
theorem q1310 : (Jvm.Cond.code ({ cls := "ExemptDesk", name := "in", desc := "(JJJ)Z" } : Jvm.MethodName) prog_1_method_1_code (6 : Nat) (Option.some Jvm.ClassFile.FieldType.boolean)) ∈ lw_all := lw_g (lw_at lw_m5 228 rfl) rfl
theorem q1311 : (Jvm.Cond.methodLink "ExemptDesk" (103 : Nat) ({ cls := "ExemptDesk$Reader", name := "read", desc := "(I)LExemptDesk$Text;" } : Jvm.MethodName)) ∈ lw_all := lw_g (lw_at lw_m5 229 rfl) rfl
theorem q1337 : (Jvm.Cond.laysStatic "ExemptDesk" "NAMES" "[Ljava/lang/String;") ∈ lw_tbl := lw_at lw_m6 15 rfl
theorem q1393 : (Jvm.Cond.fieldLinkNest "ExemptDesk" (109 : Nat) "ExemptDesk$Wrong" "kind" "I" "ExemptDesk") ∈ lw_tbl := lw_at lw_m6 71 rfl
theorem q1395 : (Jvm.Cond.fieldLinkNest "ExemptDesk" (112 : Nat) "ExemptDesk$Wrong" "place" "I" "ExemptDesk") ∈ lw_tbl := lw_at lw_m6 73 rfl
theorem q1438 : (Jvm.Cond.fieldLinkNest "ExemptDesk" (196 : Nat) "ExemptDesk$Trader" "method" "I" "ExemptDesk") ∈ lw_tbl := lw_at lw_m6 116 rfl
theorem q1441 : (Jvm.Cond.fieldLinkNest "ExemptDesk" (201 : Nat) "ExemptDesk$Trader" "basis" "I" "ExemptDesk") ∈ lw_tbl := lw_at lw_m6 119 rfl
theorem q1450 : (Jvm.Cond.fieldLinkNest "ExemptDesk" (210 : Nat) "ExemptDesk$Trader" "start" "I" "ExemptDesk") ∈ lw_tbl := lw_at lw_m6 128 rfl
theorem q1531 : (Jvm.Cond.static ({ cls := "ExemptDesk", name := "isIntervals", desc := "(I)Z" } : Jvm.MethodName)) ∈ lw_all := lw_g (lw_at lw_m6 209 rfl) rfl
theorem q1532 : (Jvm.Cond.code ({ cls := "ExemptDesk", name := "isIntervals", desc := "(I)Z" } : Jvm.MethodName) prog_1_method_2_code (1 : Nat) (Option.some Jvm.ClassFile.FieldType.boolean)) ∈ lw_all := lw_g (lw_at lw_m6 210 rfl) rfl
theorem q1549 : (Jvm.Cond.methodLink "ExemptDesk" (115 : Nat) ({ cls := "java/util/LinkedList", name := "clear", desc := "()V" } : Jvm.MethodName)) ∈ lw_all := lw_g (lw_at lw_m6 227 rfl) rfl
theorem q1554 : (Jvm.Cond.instanceMethod ({ cls := "ExemptDesk", name := "fault", desc := "(I)I" } : Jvm.MethodName)) ∈ lw_all := lw_g (lw_at lw_m6 232 rfl) rfl
theorem q1555 : (Jvm.Cond.selects "ExemptDesk" ({ cls := "ExemptDesk", name := "fault", desc := "(I)I" } : Jvm.MethodName) ({ cls := "ExemptDesk", name := "fault", desc := "(I)I" } : Jvm.MethodName)) ∈ lw_all := lw_g (lw_at lw_m6 233 rfl) rfl
theorem q1556 : (Jvm.Cond.code ({ cls := "ExemptDesk", name := "fault", desc := "(I)I" } : Jvm.MethodName) prog_1_method_8_code (2 : Nat) (Option.some Jvm.ClassFile.FieldType.int)) ∈ lw_all := lw_g (lw_at lw_m6 234 rfl) rfl
theorem q1558 : (Jvm.Cond.instanceMethod ({ cls := "ExemptDesk", name := "named", desc := "(I)I" } : Jvm.MethodName)) ∈ lw_all := lw_g (lw_at lw_m6 236 rfl) rfl
theorem q1559 : (Jvm.Cond.selects "ExemptDesk" ({ cls := "ExemptDesk", name := "named", desc := "(I)I" } : Jvm.MethodName) ({ cls := "ExemptDesk", name := "named", desc := "(I)I" } : Jvm.MethodName)) ∈ lw_all := lw_g (lw_at lw_m6 237 rfl) rfl
theorem q1560 : (Jvm.Cond.code ({ cls := "ExemptDesk", name := "named", desc := "(I)I" } : Jvm.MethodName) prog_1_method_9_code (2 : Nat) (Option.some Jvm.ClassFile.FieldType.int)) ∈ lw_all := lw_g (lw_at lw_m6 238 rfl) rfl
theorem q1561 : (Jvm.Cond.methodLink "ExemptDesk" (124 : Nat) ({ cls := "ExemptDesk$Text", name := "find", desc := "(I)I" } : Jvm.MethodName)) ∈ lw_all := lw_g (lw_at lw_m6 239 rfl) rfl
theorem q1563 : (Jvm.Cond.instanceMethod ({ cls := "ExemptDesk", name := "asset", desc := "(II)I" } : Jvm.MethodName)) ∈ lw_all := lw_g (lw_at lw_m7 1 rfl) rfl
theorem q1564 : (Jvm.Cond.selects "ExemptDesk" ({ cls := "ExemptDesk", name := "asset", desc := "(II)I" } : Jvm.MethodName) ({ cls := "ExemptDesk", name := "asset", desc := "(II)I" } : Jvm.MethodName)) ∈ lw_all := lw_g (lw_at lw_m7 2 rfl) rfl
theorem q1565 : (Jvm.Cond.code ({ cls := "ExemptDesk", name := "asset", desc := "(II)I" } : Jvm.MethodName) prog_1_method_18_code (4 : Nat) (Option.some Jvm.ClassFile.FieldType.int)) ∈ lw_all := lw_g (lw_at lw_m7 3 rfl) rfl
theorem q1566 : (Jvm.Cond.methodLink "ExemptDesk" (219 : Nat) ({ cls := "ExemptDesk", name := "isAsset", desc := "(I)Z" } : Jvm.MethodName)) ∈ lw_all := lw_g (lw_at lw_m7 4 rfl) rfl
theorem q1567 : (Jvm.Cond.privateMethod ({ cls := "ExemptDesk", name := "isAsset", desc := "(I)Z" } : Jvm.MethodName)) ∈ lw_tbl := lw_at lw_m7 5 rfl
theorem q1568 : (Jvm.Cond.instanceMethod ({ cls := "ExemptDesk", name := "isAsset", desc := "(I)Z" } : Jvm.MethodName)) ∈ lw_all := lw_g (lw_at lw_m7 6 rfl) rfl
theorem q1569 : (Jvm.Cond.code ({ cls := "ExemptDesk", name := "isAsset", desc := "(I)Z" } : Jvm.MethodName) prog_1_method_11_code (2 : Nat) (Option.some Jvm.ClassFile.FieldType.boolean)) ∈ lw_all := lw_g (lw_at lw_m7 7 rfl) rfl
theorem q1570 : (Jvm.Cond.methodLink "ExemptDesk" (135 : Nat) ({ cls := "java/util/LinkedList", name := "size", desc := "()I" } : Jvm.MethodName)) ∈ lw_all := lw_g (lw_at lw_m7 8 rfl) rfl
theorem q1571 : (Jvm.Cond.methodLink "ExemptDesk" (222 : Nat) ({ cls := "ExemptDesk$Books", name := "asset", desc := "(I)LExemptDesk$Asset;" } : Jvm.MethodName)) ∈ lw_all := lw_g (lw_at lw_m7 9 rfl) rfl
theorem q1576 : (Jvm.Cond.methodLink "ExemptDesk" (178 : Nat) ({ cls := "ExemptDesk", name := "ownerNow", desc := "(LExemptDesk$Asset;)I" } : Jvm.MethodName)) ∈ lw_all := lw_g (lw_at lw_m7 14 rfl) rfl
theorem q1577 : (Jvm.Cond.privateMethod ({ cls := "ExemptDesk", name := "ownerNow", desc := "(LExemptDesk$Asset;)I" } : Jvm.MethodName)) ∈ lw_tbl := lw_at lw_m7 15 rfl
theorem q1578 : (Jvm.Cond.instanceMethod ({ cls := "ExemptDesk", name := "ownerNow", desc := "(LExemptDesk$Asset;)I" } : Jvm.MethodName)) ∈ lw_all := lw_g (lw_at lw_m7 16 rfl) rfl
theorem q1579 : (Jvm.Cond.code ({ cls := "ExemptDesk", name := "ownerNow", desc := "(LExemptDesk$Asset;)I" } : Jvm.MethodName) prog_1_method_15_code (2 : Nat) (Option.some Jvm.ClassFile.FieldType.int)) ∈ lw_all := lw_g (lw_at lw_m7 17 rfl) rfl
theorem q1580 : (Jvm.Cond.methodLink "ExemptDesk" (158 : Nat) ({ cls := "ExemptDesk", name := "year", desc := "()I" } : Jvm.MethodName)) ∈ lw_all := lw_g (lw_at lw_m7 18 rfl) rfl
theorem q1581 : (Jvm.Cond.privateMethod ({ cls := "ExemptDesk", name := "year", desc := "()I" } : Jvm.MethodName)) ∈ lw_tbl := lw_at lw_m7 19 rfl
theorem q1582 : (Jvm.Cond.instanceMethod ({ cls := "ExemptDesk", name := "year", desc := "()I" } : Jvm.MethodName)) ∈ lw_all := lw_g (lw_at lw_m7 20 rfl) rfl
theorem q1583 : (Jvm.Cond.code ({ cls := "ExemptDesk", name := "year", desc := "()I" } : Jvm.MethodName) prog_1_method_14_code (1 : Nat) (Option.some Jvm.ClassFile.FieldType.int)) ∈ lw_all := lw_g (lw_at lw_m7 21 rfl) rfl
theorem q1584 : (Jvm.Cond.methodLink "ExemptDesk" (244 : Nat) ({ cls := "ExemptDesk$Books", name := "firstOf", desc := "(LExemptDesk$Asset;)I" } : Jvm.MethodName)) ∈ lw_all := lw_g (lw_at lw_m7 22 rfl) rfl
theorem q1645 : (Jvm.Cond.instanceMethod ({ cls := "ExemptDesk", name := "sale", desc := "(III)I" } : Jvm.MethodName)) ∈ lw_all := lw_g (lw_at lw_m7 83 rfl) rfl
theorem q1646 : (Jvm.Cond.selects "ExemptDesk" ({ cls := "ExemptDesk", name := "sale", desc := "(III)I" } : Jvm.MethodName) ({ cls := "ExemptDesk", name := "sale", desc := "(III)I" } : Jvm.MethodName)) ∈ lw_all := lw_g (lw_at lw_m7 84 rfl) rfl
theorem q1647 : (Jvm.Cond.code ({ cls := "ExemptDesk", name := "sale", desc := "(III)I" } : Jvm.MethodName) prog_1_method_20_code (4 : Nat) (Option.some Jvm.ClassFile.FieldType.int)) ∈ lw_all := lw_g (lw_at lw_m7 85 rfl) rfl
theorem q1648 : (Jvm.Cond.methodLink "ExemptDesk" (185 : Nat) ({ cls := "ExemptDesk", name := "isTrader", desc := "(I)Z" } : Jvm.MethodName)) ∈ lw_all := lw_g (lw_at lw_m7 86 rfl) rfl
theorem q1649 : (Jvm.Cond.privateMethod ({ cls := "ExemptDesk", name := "isTrader", desc := "(I)Z" } : Jvm.MethodName)) ∈ lw_tbl := lw_at lw_m7 87 rfl
theorem q1650 : (Jvm.Cond.instanceMethod ({ cls := "ExemptDesk", name := "isTrader", desc := "(I)Z" } : Jvm.MethodName)) ∈ lw_all := lw_g (lw_at lw_m7 88 rfl) rfl
theorem q1651 : (Jvm.Cond.code ({ cls := "ExemptDesk", name := "isTrader", desc := "(I)Z" } : Jvm.MethodName) prog_1_method_10_code (2 : Nat) (Option.some Jvm.ClassFile.FieldType.boolean)) ∈ lw_all := lw_g (lw_at lw_m7 89 rfl) rfl
theorem q1652 : (Jvm.Cond.methodLink "ExemptDesk" (128 : Nat) ({ cls := "ExemptDesk$Text", name := "many", desc := "()I" } : Jvm.MethodName)) ∈ lw_all := lw_g (lw_at lw_m7 90 rfl) rfl
theorem q1653 : (Jvm.Cond.constantLong "ExemptDesk" (258 : Nat) (99999 : Int64)) ∈ lw_all := lw_g (lw_at lw_m7 91 rfl) rfl
theorem q1654 : (Jvm.Cond.methodLink "ExemptDesk" (260 : Nat) ({ cls := "ExemptDesk", name := "remembers", desc := "()V" } : Jvm.MethodName)) ∈ lw_all := lw_g (lw_at lw_m7 92 rfl) rfl
theorem q1655 : (Jvm.Cond.privateMethod ({ cls := "ExemptDesk", name := "remembers", desc := "()V" } : Jvm.MethodName)) ∈ lw_tbl := lw_at lw_m7 93 rfl
theorem q1656 : (Jvm.Cond.instanceMethod ({ cls := "ExemptDesk", name := "remembers", desc := "()V" } : Jvm.MethodName)) ∈ lw_all := lw_g (lw_at lw_m7 94 rfl) rfl
theorem q1657 : (Jvm.Cond.code ({ cls := "ExemptDesk", name := "remembers", desc := "()V" } : Jvm.MethodName) prog_1_method_19_code (2 : Nat) (Option.none : Option Jvm.ClassFile.FieldType)) ∈ lw_all := lw_g (lw_at lw_m7 95 rfl) rfl
theorem q1658 : (Jvm.Cond.methodLink "ExemptDesk" (247 : Nat) ({ cls := "java/util/LinkedList", name := "removeFirst", desc := "()Ljava/lang/Object;" } : Jvm.MethodName)) ∈ lw_all := lw_g (lw_at lw_m7 96 rfl) rfl
theorem q1668 : (Jvm.Cond.methodLink "ExemptDesk" (250 : Nat) ({ cls := "ExemptDesk$Books", name := "be", desc := "(LExemptDesk$Books;)LExemptDesk$Books;" } : Jvm.MethodName)) ∈ lw_all := lw_g (lw_at lw_m7 106 rfl) rfl
theorem q1775 : (Jvm.Cond.methodLink "ExemptDesk" (254 : Nat) ({ cls := "java/util/LinkedList", name := "addLast", desc := "(Ljava/lang/Object;)V" } : Jvm.MethodName)) ∈ lw_all := lw_g (lw_at lw_m7 213 rfl) rfl
theorem q1780 : (Jvm.Cond.instanceMethod ({ cls := "ExemptDesk", name := "buy", desc := "(III)I" } : Jvm.MethodName)) ∈ lw_all := lw_g (lw_at lw_m7 218 rfl) rfl
theorem q1781 : (Jvm.Cond.selects "ExemptDesk" ({ cls := "ExemptDesk", name := "buy", desc := "(III)I" } : Jvm.MethodName) ({ cls := "ExemptDesk", name := "buy", desc := "(III)I" } : Jvm.MethodName)) ∈ lw_all := lw_g (lw_at lw_m7 219 rfl) rfl
theorem q1782 : (Jvm.Cond.code ({ cls := "ExemptDesk", name := "buy", desc := "(III)I" } : Jvm.MethodName) prog_1_method_21_code (4 : Nat) (Option.some Jvm.ClassFile.FieldType.int)) ∈ lw_all := lw_g (lw_at lw_m7 220 rfl) rfl
theorem q1783 : (Jvm.Cond.constantLong "ExemptDesk" (270 : Nat) (2 : Int64)) ∈ lw_all := lw_g (lw_at lw_m7 221 rfl) rfl
theorem q1784 : (Jvm.Cond.constantLong "ExemptDesk" (272 : Nat) (9999 : Int64)) ∈ lw_all := lw_g (lw_at lw_m7 222 rfl) rfl
theorem q1786 : (Jvm.Cond.instanceMethod ({ cls := "ExemptDesk", name := "late", desc := "(IIII)I" } : Jvm.MethodName)) ∈ lw_all := lw_g (lw_at lw_m7 224 rfl) rfl
theorem q1787 : (Jvm.Cond.selects "ExemptDesk" ({ cls := "ExemptDesk", name := "late", desc := "(IIII)I" } : Jvm.MethodName) ({ cls := "ExemptDesk", name := "late", desc := "(IIII)I" } : Jvm.MethodName)) ∈ lw_all := lw_g (lw_at lw_m7 225 rfl) rfl
theorem q1788 : (Jvm.Cond.code ({ cls := "ExemptDesk", name := "late", desc := "(IIII)I" } : Jvm.MethodName) prog_1_method_22_code (5 : Nat) (Option.some Jvm.ClassFile.FieldType.int)) ∈ lw_all := lw_g (lw_at lw_m7 226 rfl) rfl
theorem q1789 : (Jvm.Cond.constantLong "ExemptDesk" (274 : Nat) (4 : Int64)) ∈ lw_all := lw_g (lw_at lw_m7 227 rfl) rfl
theorem q1791 : (Jvm.Cond.instanceMethod ({ cls := "ExemptDesk", name := "heads", desc := "(III)Z" } : Jvm.MethodName)) ∈ lw_all := lw_g (lw_at lw_m7 229 rfl) rfl
theorem q1792 : (Jvm.Cond.selects "ExemptDesk" ({ cls := "ExemptDesk", name := "heads", desc := "(III)Z" } : Jvm.MethodName) ({ cls := "ExemptDesk", name := "heads", desc := "(III)Z" } : Jvm.MethodName)) ∈ lw_all := lw_g (lw_at lw_m7 230 rfl) rfl
theorem q1793 : (Jvm.Cond.code ({ cls := "ExemptDesk", name := "heads", desc := "(III)Z" } : Jvm.MethodName) prog_1_method_23_code (4 : Nat) (Option.some Jvm.ClassFile.FieldType.boolean)) ∈ lw_all := lw_g (lw_at lw_m7 231 rfl) rfl
theorem q1794 : (Jvm.Cond.constantLong "ExemptDesk" (276 : Nat) (999 : Int64)) ∈ lw_all := lw_g (lw_at lw_m7 232 rfl) rfl
theorem q1796 : (Jvm.Cond.instanceMethod ({ cls := "ExemptDesk", name := "acquire", desc := "(IIII)I" } : Jvm.MethodName)) ∈ lw_all := lw_g (lw_at lw_m7 234 rfl) rfl
theorem q1797 : (Jvm.Cond.selects "ExemptDesk" ({ cls := "ExemptDesk", name := "acquire", desc := "(IIII)I" } : Jvm.MethodName) ({ cls := "ExemptDesk", name := "acquire", desc := "(IIII)I" } : Jvm.MethodName)) ∈ lw_all := lw_g (lw_at lw_m7 235 rfl) rfl
theorem q1798 : (Jvm.Cond.code ({ cls := "ExemptDesk", name := "acquire", desc := "(IIII)I" } : Jvm.MethodName) prog_1_method_24_code (5 : Nat) (Option.some Jvm.ClassFile.FieldType.int)) ∈ lw_all := lw_g (lw_at lw_m7 236 rfl) rfl
theorem q1799 : (Jvm.Cond.methodLink "ExemptDesk" (278 : Nat) ({ cls := "ExemptDesk", name := "isIntervals", desc := "(I)Z" } : Jvm.MethodName)) ∈ lw_all := lw_g (lw_at lw_m7 237 rfl) rfl
theorem q1800 : (Jvm.Cond.methodLink "ExemptDesk" (281 : Nat) ({ cls := "ExemptDesk$Books", name := "buys", desc := "(IIII)V" } : Jvm.MethodName)) ∈ lw_all := lw_g (lw_at lw_m7 238 rfl) rfl
theorem q1802 : (Jvm.Cond.instanceMethod ({ cls := "ExemptDesk", name := "use", desc := "(II)Z" } : Jvm.MethodName)) ∈ lw_all := lw_g (lw_at lw_m8 0 rfl) rfl
theorem q1803 : (Jvm.Cond.selects "ExemptDesk" ({ cls := "ExemptDesk", name := "use", desc := "(II)Z" } : Jvm.MethodName) ({ cls := "ExemptDesk", name := "use", desc := "(II)Z" } : Jvm.MethodName)) ∈ lw_all := lw_g (lw_at lw_m8 1 rfl) rfl
theorem q1804 : (Jvm.Cond.code ({ cls := "ExemptDesk", name := "use", desc := "(II)Z" } : Jvm.MethodName) prog_1_method_25_code (4 : Nat) (Option.some Jvm.ClassFile.FieldType.boolean)) ∈ lw_all := lw_g (lw_at lw_m8 2 rfl) rfl
theorem q1805 : (Jvm.Cond.methodLink "ExemptDesk" (285 : Nat) ({ cls := "ExemptDesk$Asset", name := "isOpen", desc := "()Z" } : Jvm.MethodName)) ∈ lw_all := lw_g (lw_at lw_m8 3 rfl) rfl
theorem q1810 : (Jvm.Cond.instanceMethod ({ cls := "ExemptDesk", name := "sell", desc := "(III)I" } : Jvm.MethodName)) ∈ lw_all := lw_g (lw_at lw_m8 8 rfl) rfl
theorem q1811 : (Jvm.Cond.selects "ExemptDesk" ({ cls := "ExemptDesk", name := "sell", desc := "(III)I" } : Jvm.MethodName) ({ cls := "ExemptDesk", name := "sell", desc := "(III)I" } : Jvm.MethodName)) ∈ lw_all := lw_g (lw_at lw_m8 9 rfl) rfl
theorem q1812 : (Jvm.Cond.code ({ cls := "ExemptDesk", name := "sell", desc := "(III)I" } : Jvm.MethodName) prog_1_method_26_code (5 : Nat) (Option.some Jvm.ClassFile.FieldType.int)) ∈ lw_all := lw_g (lw_at lw_m8 10 rfl) rfl
theorem q1813 : (Jvm.Cond.constantLong "ExemptDesk" (288 : Nat) (-1 : Int64)) ∈ lw_all := lw_g (lw_at lw_m8 11 rfl) rfl
theorem q1814 : (Jvm.Cond.methodLink "ExemptDesk" (293 : Nat) ({ cls := "ExemptDesk$Asset", name := "interval", desc := "(I)I" } : Jvm.MethodName)) ∈ lw_all := lw_g (lw_at lw_m8 12 rfl) rfl
theorem q1819 : (Jvm.Cond.instanceMethod ({ cls := "ExemptDesk", name := "hand", desc := "(II)I" } : Jvm.MethodName)) ∈ lw_all := lw_g (lw_at lw_m8 17 rfl) rfl
theorem q1820 : (Jvm.Cond.selects "ExemptDesk" ({ cls := "ExemptDesk", name := "hand", desc := "(II)I" } : Jvm.MethodName) ({ cls := "ExemptDesk", name := "hand", desc := "(II)I" } : Jvm.MethodName)) ∈ lw_all := lw_g (lw_at lw_m8 18 rfl) rfl
theorem q1821 : (Jvm.Cond.code ({ cls := "ExemptDesk", name := "hand", desc := "(II)I" } : Jvm.MethodName) prog_1_method_27_code (5 : Nat) (Option.some Jvm.ClassFile.FieldType.int)) ∈ lw_all := lw_g (lw_at lw_m8 19 rfl) rfl
theorem q1823 : (Jvm.Cond.instanceMethod ({ cls := "ExemptDesk", name := "close", desc := "(I)I" } : Jvm.MethodName)) ∈ lw_all := lw_g (lw_at lw_m8 21 rfl) rfl
theorem q1824 : (Jvm.Cond.selects "ExemptDesk" ({ cls := "ExemptDesk", name := "close", desc := "(I)I" } : Jvm.MethodName) ({ cls := "ExemptDesk", name := "close", desc := "(I)I" } : Jvm.MethodName)) ∈ lw_all := lw_g (lw_at lw_m8 22 rfl) rfl
theorem q1825 : (Jvm.Cond.code ({ cls := "ExemptDesk", name := "close", desc := "(I)I" } : Jvm.MethodName) prog_1_method_29_code (4 : Nat) (Option.some Jvm.ClassFile.FieldType.int)) ∈ lw_all := lw_g (lw_at lw_m8 23 rfl) rfl
theorem q1826 : (Jvm.Cond.constantLong "ExemptDesk" (296 : Nat) (16 : Int64)) ∈ lw_all := lw_g (lw_at lw_m8 24 rfl) rfl
theorem q1827 : (Jvm.Cond.methodLink "ExemptDesk" (298 : Nat) ({ cls := "ExemptDesk", name := "canClose", desc := "(I)Z" } : Jvm.MethodName)) ∈ lw_all := lw_g (lw_at lw_m8 25 rfl) rfl
theorem q1828 : (Jvm.Cond.privateMethod ({ cls := "ExemptDesk", name := "canClose", desc := "(I)Z" } : Jvm.MethodName)) ∈ lw_tbl := lw_at lw_m8 26 rfl
theorem q1829 : (Jvm.Cond.instanceMethod ({ cls := "ExemptDesk", name := "canClose", desc := "(I)Z" } : Jvm.MethodName)) ∈ lw_all := lw_g (lw_at lw_m8 27 rfl) rfl
theorem q1830 : (Jvm.Cond.code ({ cls := "ExemptDesk", name := "canClose", desc := "(I)Z" } : Jvm.MethodName) prog_1_method_28_code (2 : Nat) (Option.some Jvm.ClassFile.FieldType.boolean)) ∈ lw_all := lw_g (lw_at lw_m8 28 rfl) rfl
theorem q1831 : (Jvm.Cond.methodLink "ExemptDesk" (304 : Nat) ({ cls := "ExemptDesk$Books", name := "close", desc := "()LExemptDesk$Books;" } : Jvm.MethodName)) ∈ lw_all := lw_g (lw_at lw_m8 29 rfl) rfl
theorem q2052 : (Jvm.Cond.instanceMethod ({ cls := "ExemptDesk", name := "sum", desc := "(III)I" } : Jvm.MethodName)) ∈ lw_all := lw_g (lw_at lw_m9 10 rfl) rfl
theorem q2053 : (Jvm.Cond.selects "ExemptDesk" ({ cls := "ExemptDesk", name := "sum", desc := "(III)I" } : Jvm.MethodName) ({ cls := "ExemptDesk", name := "sum", desc := "(III)I" } : Jvm.MethodName)) ∈ lw_all := lw_g (lw_at lw_m9 11 rfl) rfl
theorem q2054 : (Jvm.Cond.code ({ cls := "ExemptDesk", name := "sum", desc := "(III)I" } : Jvm.MethodName) prog_1_method_30_code (4 : Nat) (Option.some Jvm.ClassFile.FieldType.int)) ∈ lw_all := lw_g (lw_at lw_m9 12 rfl) rfl
theorem q2055 : (Jvm.Cond.methodLink "ExemptDesk" (307 : Nat) ({ cls := "ExemptDesk", name := "isQuarter", desc := "(I)Z" } : Jvm.MethodName)) ∈ lw_all := lw_g (lw_at lw_m9 13 rfl) rfl
theorem q2056 : (Jvm.Cond.static ({ cls := "ExemptDesk", name := "isQuarter", desc := "(I)Z" } : Jvm.MethodName)) ∈ lw_all := lw_g (lw_at lw_m9 14 rfl) rfl
theorem q2057 : (Jvm.Cond.code ({ cls := "ExemptDesk", name := "isQuarter", desc := "(I)Z" } : Jvm.MethodName) prog_1_method_13_code (1 : Nat) (Option.some Jvm.ClassFile.FieldType.boolean)) ∈ lw_all := lw_g (lw_at lw_m9 15 rfl) rfl
theorem q2058 : (Jvm.Cond.constantLong "ExemptDesk" (140 : Nat) (63 : Int64)) ∈ lw_all := lw_g (lw_at lw_m9 16 rfl) rfl
theorem q2060 : (Jvm.Cond.instanceMethod ({ cls := "ExemptDesk", name := "provisional", desc := "(II)I" } : Jvm.MethodName)) ∈ lw_all := lw_g (lw_at lw_m9 18 rfl) rfl
theorem q2061 : (Jvm.Cond.selects "ExemptDesk" ({ cls := "ExemptDesk", name := "provisional", desc := "(II)I" } : Jvm.MethodName) ({ cls := "ExemptDesk", name := "provisional", desc := "(II)I" } : Jvm.MethodName)) ∈ lw_all := lw_g (lw_at lw_m9 19 rfl) rfl
theorem q2062 : (Jvm.Cond.code ({ cls := "ExemptDesk", name := "provisional", desc := "(II)I" } : Jvm.MethodName) prog_1_method_31_code (3 : Nat) (Option.some Jvm.ClassFile.FieldType.int)) ∈ lw_all := lw_g (lw_at lw_m9 20 rfl) rfl
theorem q2063 : (Jvm.Cond.methodLink "ExemptDesk" (310 : Nat) ({ cls := "ExemptDesk$Books", name := "provisionalOf", desc := "(II)I" } : Jvm.MethodName)) ∈ lw_all := lw_g (lw_at lw_m9 21 rfl) rfl
theorem q2065 : (Jvm.Cond.instanceMethod ({ cls := "ExemptDesk", name := "recovered", desc := "(II)I" } : Jvm.MethodName)) ∈ lw_all := lw_g (lw_at lw_m9 23 rfl) rfl
theorem q2066 : (Jvm.Cond.selects "ExemptDesk" ({ cls := "ExemptDesk", name := "recovered", desc := "(II)I" } : Jvm.MethodName) ({ cls := "ExemptDesk", name := "recovered", desc := "(II)I" } : Jvm.MethodName)) ∈ lw_all := lw_g (lw_at lw_m9 24 rfl) rfl
theorem q2067 : (Jvm.Cond.code ({ cls := "ExemptDesk", name := "recovered", desc := "(II)I" } : Jvm.MethodName) prog_1_method_32_code (3 : Nat) (Option.some Jvm.ClassFile.FieldType.int)) ∈ lw_all := lw_g (lw_at lw_m9 25 rfl) rfl
theorem q2069 : (Jvm.Cond.instanceMethod ({ cls := "ExemptDesk", name := "annual", desc := "(III)I" } : Jvm.MethodName)) ∈ lw_all := lw_g (lw_at lw_m9 27 rfl) rfl
theorem q2070 : (Jvm.Cond.selects "ExemptDesk" ({ cls := "ExemptDesk", name := "annual", desc := "(III)I" } : Jvm.MethodName) ({ cls := "ExemptDesk", name := "annual", desc := "(III)I" } : Jvm.MethodName)) ∈ lw_all := lw_g (lw_at lw_m9 28 rfl) rfl
theorem q2071 : (Jvm.Cond.code ({ cls := "ExemptDesk", name := "annual", desc := "(III)I" } : Jvm.MethodName) prog_1_method_35_code (4 : Nat) (Option.some Jvm.ClassFile.FieldType.int)) ∈ lw_all := lw_g (lw_at lw_m9 29 rfl) rfl
theorem q2072 : (Jvm.Cond.methodLink "ExemptDesk" (346 : Nat) ({ cls := "ExemptDesk", name := "isThere", desc := "(II)Z" } : Jvm.MethodName)) ∈ lw_all := lw_g (lw_at lw_m9 30 rfl) rfl
theorem q2073 : (Jvm.Cond.privateMethod ({ cls := "ExemptDesk", name := "isThere", desc := "(II)Z" } : Jvm.MethodName)) ∈ lw_tbl := lw_at lw_m9 31 rfl
theorem q2074 : (Jvm.Cond.instanceMethod ({ cls := "ExemptDesk", name := "isThere", desc := "(II)Z" } : Jvm.MethodName)) ∈ lw_all := lw_g (lw_at lw_m9 32 rfl) rfl
theorem q2075 : (Jvm.Cond.code ({ cls := "ExemptDesk", name := "isThere", desc := "(II)Z" } : Jvm.MethodName) prog_1_method_33_code (3 : Nat) (Option.some Jvm.ClassFile.FieldType.boolean)) ∈ lw_all := lw_g (lw_at lw_m9 33 rfl) rfl
theorem q2076 : (Jvm.Cond.methodLink "ExemptDesk" (318 : Nat) ({ cls := "ExemptDesk", name := "isYear", desc := "(I)Z" } : Jvm.MethodName)) ∈ lw_all := lw_g (lw_at lw_m9 34 rfl) rfl
theorem q2077 : (Jvm.Cond.static ({ cls := "ExemptDesk", name := "isYear", desc := "(I)Z" } : Jvm.MethodName)) ∈ lw_all := lw_g (lw_at lw_m9 35 rfl) rfl
theorem q2078 : (Jvm.Cond.code ({ cls := "ExemptDesk", name := "isYear", desc := "(I)Z" } : Jvm.MethodName) prog_1_method_12_code (1 : Nat) (Option.some Jvm.ClassFile.FieldType.boolean)) ∈ lw_all := lw_g (lw_at lw_m9 36 rfl) rfl
theorem q2079 : (Jvm.Cond.constantLong "ExemptDesk" (138 : Nat) (15 : Int64)) ∈ lw_all := lw_g (lw_at lw_m9 37 rfl) rfl
theorem q2080 : (Jvm.Cond.constant "ExemptDesk" (350 : Nat) (-999999 : Int32)) ∈ lw_all := lw_g (lw_at lw_m9 38 rfl) rfl
theorem q2081 : (Jvm.Cond.methodLink "ExemptDesk" (321 : Nat) ({ cls := "ExemptDesk$Books", name := "annualOf", desc := "(II)I" } : Jvm.MethodName)) ∈ lw_all := lw_g (lw_at lw_m9 39 rfl) rfl
theorem q2085 : (Jvm.Cond.methodLink "ExemptDesk" (351 : Nat) ({ cls := "ExemptDesk$Books", name := "backOfYear", desc := "(II)I" } : Jvm.MethodName)) ∈ lw_all := lw_g (lw_at lw_m9 43 rfl) rfl
theorem q2090 : (Jvm.Cond.methodLink "ExemptDesk" (354 : Nat) ({ cls := "ExemptDesk", name := "isSmall", desc := "(II)Z" } : Jvm.MethodName)) ∈ lw_all := lw_g (lw_at lw_m9 48 rfl) rfl
theorem q2091 : (Jvm.Cond.privateMethod ({ cls := "ExemptDesk", name := "isSmall", desc := "(II)Z" } : Jvm.MethodName)) ∈ lw_tbl := lw_at lw_m9 49 rfl
theorem q2092 : (Jvm.Cond.instanceMethod ({ cls := "ExemptDesk", name := "isSmall", desc := "(II)Z" } : Jvm.MethodName)) ∈ lw_all := lw_g (lw_at lw_m9 50 rfl) rfl
theorem q2093 : (Jvm.Cond.code ({ cls := "ExemptDesk", name := "isSmall", desc := "(II)Z" } : Jvm.MethodName) prog_1_method_34_code (5 : Nat) (Option.some Jvm.ClassFile.FieldType.boolean)) ∈ lw_all := lw_g (lw_at lw_m9 51 rfl) rfl
theorem q2094 : (Jvm.Cond.methodLink "ExemptDesk" (324 : Nat) ({ cls := "ExemptDesk$Books", name := "ofYear", desc := "(II)LExemptDesk$Sums;" } : Jvm.MethodName)) ∈ lw_all := lw_g (lw_at lw_m9 52 rfl) rfl
theorem q2095 : (Jvm.Cond.methodLink "ExemptDesk" (331 : Nat) ({ cls := "ExemptDesk$Books", name := "way", desc := "()LExemptDesk$Way;" } : Jvm.MethodName)) ∈ lw_all := lw_g (lw_at lw_m9 53 rfl) rfl
theorem q2096 : (Jvm.Cond.methodLink "ExemptDesk" (335 : Nat) ({ cls := "ExemptDesk$Sums", name := "backPlain", desc := "(IILExemptDesk$Way;)J" } : Jvm.MethodName)) ∈ lw_all := lw_g (lw_at lw_m9 54 rfl) rfl
theorem q2097 : (Jvm.Cond.methodLink "ExemptDesk" (342 : Nat) ({ cls := "ExemptDesk$Sums", name := "isSmall", desc := "(JI)Z" } : Jvm.MethodName)) ∈ lw_all := lw_g (lw_at lw_m9 55 rfl) rfl
theorem q2098 : (Jvm.Cond.methodLink "ExemptDesk" (356 : Nat) ({ cls := "ExemptDesk$Books", name := "bookedIn", desc := "(II)I" } : Jvm.MethodName)) ∈ lw_all := lw_g (lw_at lw_m9 56 rfl) rfl
theorem q2100 : (Jvm.Cond.instanceMethod ({ cls := "ExemptDesk", name := "interval", desc := "(III)I" } : Jvm.MethodName)) ∈ lw_all := lw_g (lw_at lw_m9 58 rfl) rfl
theorem q2101 : (Jvm.Cond.selects "ExemptDesk" ({ cls := "ExemptDesk", name := "interval", desc := "(III)I" } : Jvm.MethodName) ({ cls := "ExemptDesk", name := "interval", desc := "(III)I" } : Jvm.MethodName)) ∈ lw_all := lw_g (lw_at lw_m9 59 rfl) rfl
theorem q2102 : (Jvm.Cond.code ({ cls := "ExemptDesk", name := "interval", desc := "(III)I" } : Jvm.MethodName) prog_1_method_36_code (6 : Nat) (Option.some Jvm.ClassFile.FieldType.int)) ∈ lw_all := lw_g (lw_at lw_m9 60 rfl) rfl
theorem q2103 : (Jvm.Cond.constantLong "ExemptDesk" (359 : Nat) (3 : Int64)) ∈ lw_all := lw_g (lw_at lw_m9 61 rfl) rfl
theorem q2105 : (Jvm.Cond.instanceMethod ({ cls := "ExemptDesk", name := "taken", desc := "(I)I" } : Jvm.MethodName)) ∈ lw_all := lw_g (lw_at lw_m9 63 rfl) rfl
theorem q2106 : (Jvm.Cond.selects "ExemptDesk" ({ cls := "ExemptDesk", name := "taken", desc := "(I)I" } : Jvm.MethodName) ({ cls := "ExemptDesk", name := "taken", desc := "(I)I" } : Jvm.MethodName)) ∈ lw_all := lw_g (lw_at lw_m9 64 rfl) rfl
theorem q2107 : (Jvm.Cond.code ({ cls := "ExemptDesk", name := "taken", desc := "(I)I" } : Jvm.MethodName) prog_1_method_37_code (2 : Nat) (Option.some Jvm.ClassFile.FieldType.int)) ∈ lw_all := lw_g (lw_at lw_m9 65 rfl) rfl
theorem q2108 : (Jvm.Cond.methodLink "ExemptDesk" (373 : Nat) ({ cls := "ExemptDesk$Books", name := "taken", desc := "(LExemptDesk$Asset;)I" } : Jvm.MethodName)) ∈ lw_all := lw_g (lw_at lw_m9 66 rfl) rfl
theorem q2115 : (Jvm.Cond.instanceMethod ({ cls := "ExemptDesk", name := "last", desc := "(I)I" } : Jvm.MethodName)) ∈ lw_all := lw_g (lw_at lw_m9 73 rfl) rfl
theorem q2116 : (Jvm.Cond.selects "ExemptDesk" ({ cls := "ExemptDesk", name := "last", desc := "(I)I" } : Jvm.MethodName) ({ cls := "ExemptDesk", name := "last", desc := "(I)I" } : Jvm.MethodName)) ∈ lw_all := lw_g (lw_at lw_m9 74 rfl) rfl
theorem q2117 : (Jvm.Cond.code ({ cls := "ExemptDesk", name := "last", desc := "(I)I" } : Jvm.MethodName) prog_1_method_38_code (2 : Nat) (Option.some Jvm.ClassFile.FieldType.int)) ∈ lw_all := lw_g (lw_at lw_m9 75 rfl) rfl
theorem q2119 : (Jvm.Cond.instanceMethod ({ cls := "ExemptDesk", name := "booked", desc := "(II)I" } : Jvm.MethodName)) ∈ lw_all := lw_g (lw_at lw_m9 77 rfl) rfl
theorem q2120 : (Jvm.Cond.selects "ExemptDesk" ({ cls := "ExemptDesk", name := "booked", desc := "(II)I" } : Jvm.MethodName) ({ cls := "ExemptDesk", name := "booked", desc := "(II)I" } : Jvm.MethodName)) ∈ lw_all := lw_g (lw_at lw_m9 78 rfl) rfl
theorem q2121 : (Jvm.Cond.code ({ cls := "ExemptDesk", name := "booked", desc := "(II)I" } : Jvm.MethodName) prog_1_method_39_code (5 : Nat) (Option.some Jvm.ClassFile.FieldType.int)) ∈ lw_all := lw_g (lw_at lw_m9 79 rfl) rfl
theorem q2122 : (Jvm.Cond.methodLink "ExemptDesk" (383 : Nat) ({ cls := "java/util/ArrayDeque", name := "size", desc := "()I" } : Jvm.MethodName)) ∈ lw_all := lw_g (lw_at lw_m9 80 rfl) rfl
theorem q2123 : (Jvm.Cond.methodLink "ExemptDesk" (386 : Nat) ({ cls := "java/util/ArrayDeque", name := "iterator", desc := "()Ljava/util/Iterator;" } : Jvm.MethodName)) ∈ lw_all := lw_g (lw_at lw_m9 81 rfl) rfl
theorem q2124 : (Jvm.Cond.interfaceEntry "ExemptDesk" (174 : Nat)) ∈ lw_tbl := lw_at lw_m9 82 rfl
theorem q2125 : (Jvm.Cond.methodLink "ExemptDesk" (174 : Nat) ({ cls := "java/util/Iterator", name := "next", desc := "()Ljava/lang/Object;" } : Jvm.MethodName)) ∈ lw_all := lw_g (lw_at lw_m9 83 rfl) rfl
theorem q2126 : (Jvm.Cond.classLink "ExemptDesk" (387 : Nat) "ExemptDesk$Entry") ∈ lw_all := lw_g (lw_at lw_m9 84 rfl) rfl
theorem q2127 : (Jvm.Cond.methodLink "ExemptDesk" (389 : Nat) ({ cls := "ExemptDesk$Entry", name := "told", desc := "(I)I" } : Jvm.MethodName)) ∈ lw_all := lw_g (lw_at lw_m9 85 rfl) rfl
theorem q2132 : (Jvm.Cond.instanceMethod ({ cls := "ExemptDesk", name := "total", desc := "(II)I" } : Jvm.MethodName)) ∈ lw_all := lw_g (lw_at lw_m9 90 rfl) rfl
theorem q2133 : (Jvm.Cond.selects "ExemptDesk" ({ cls := "ExemptDesk", name := "total", desc := "(II)I" } : Jvm.MethodName) ({ cls := "ExemptDesk", name := "total", desc := "(II)I" } : Jvm.MethodName)) ∈ lw_all := lw_g (lw_at lw_m9 91 rfl) rfl
theorem q2134 : (Jvm.Cond.code ({ cls := "ExemptDesk", name := "total", desc := "(II)I" } : Jvm.MethodName) prog_1_method_40_code (3 : Nat) (Option.some Jvm.ClassFile.FieldType.int)) ∈ lw_all := lw_g (lw_at lw_m9 92 rfl) rfl
theorem q2136 : (Jvm.Cond.instanceMethod ({ cls := "ExemptDesk", name := "by", desc := "(IIIII)I" } : Jvm.MethodName)) ∈ lw_all := lw_g (lw_at lw_m9 94 rfl) rfl
theorem q2137 : (Jvm.Cond.selects "ExemptDesk" ({ cls := "ExemptDesk", name := "by", desc := "(IIIII)I" } : Jvm.MethodName) ({ cls := "ExemptDesk", name := "by", desc := "(IIIII)I" } : Jvm.MethodName)) ∈ lw_all := lw_g (lw_at lw_m9 95 rfl) rfl
theorem q2138 : (Jvm.Cond.code ({ cls := "ExemptDesk", name := "by", desc := "(IIIII)I" } : Jvm.MethodName) prog_1_method_42_code (6 : Nat) (Option.some Jvm.ClassFile.FieldType.int)) ∈ lw_all := lw_g (lw_at lw_m9 96 rfl) rfl
theorem q2139 : (Jvm.Cond.constantLong "ExemptDesk" (406 : Nat) (10 : Int64)) ∈ lw_all := lw_g (lw_at lw_m9 97 rfl) rfl
theorem q2140 : (Jvm.Cond.constantLong "ExemptDesk" (408 : Nat) (1000 : Int64)) ∈ lw_all := lw_g (lw_at lw_m9 98 rfl) rfl
theorem q2141 : (Jvm.Cond.interfaceEntry "ExemptDesk" (394 : Nat)) ∈ lw_tbl := lw_at lw_m9 99 rfl
theorem q2142 : (Jvm.Cond.methodLink "ExemptDesk" (394 : Nat) ({ cls := "java/util/List", name := "get", desc := "(I)Ljava/lang/Object;" } : Jvm.MethodName)) ∈ lw_all := lw_g (lw_at lw_m9 100 rfl) rfl
theorem q2143 : (Jvm.Cond.methodLink "ExemptDesk" (410 : Nat) ({ cls := "ExemptDesk", name := "backBy", desc := "(IILExemptDesk$Way;II)I" } : Jvm.MethodName)) ∈ lw_all := lw_g (lw_at lw_m9 101 rfl) rfl
theorem q2144 : (Jvm.Cond.privateMethod ({ cls := "ExemptDesk", name := "backBy", desc := "(IILExemptDesk$Way;II)I" } : Jvm.MethodName)) ∈ lw_tbl := lw_at lw_m9 102 rfl
theorem q2145 : (Jvm.Cond.instanceMethod ({ cls := "ExemptDesk", name := "backBy", desc := "(IILExemptDesk$Way;II)I" } : Jvm.MethodName)) ∈ lw_all := lw_g (lw_at lw_m9 103 rfl) rfl
theorem q2146 : (Jvm.Cond.code ({ cls := "ExemptDesk", name := "backBy", desc := "(IILExemptDesk$Way;II)I" } : Jvm.MethodName) prog_1_method_41_code (7 : Nat) (Option.some Jvm.ClassFile.FieldType.int)) ∈ lw_all := lw_g (lw_at lw_m9 104 rfl) rfl
theorem q2147 : (Jvm.Cond.methodLink "ExemptDesk" (398 : Nat) ({ cls := "ExemptDesk$Method", name := "fraction", desc := "(LExemptDesk$Sums;IIILExemptDesk$Way;)I" } : Jvm.MethodName)) ∈ lw_all := lw_g (lw_at lw_m9 105 rfl) rfl
theorem q2148 : (Jvm.Cond.methodLink "ExemptDesk" (402 : Nat) ({ cls := "ExemptDesk$Sums", name := "back", desc := "(IILExemptDesk$Way;I)I" } : Jvm.MethodName)) ∈ lw_all := lw_g (lw_at lw_m9 106 rfl) rfl
theorem q2150 : (Jvm.Cond.instanceMethod ({ cls := "ExemptDesk", name := "bestMethod", desc := "(II)I" } : Jvm.MethodName)) ∈ lw_all := lw_g (lw_at lw_m9 108 rfl) rfl
theorem q2151 : (Jvm.Cond.selects "ExemptDesk" ({ cls := "ExemptDesk", name := "bestMethod", desc := "(II)I" } : Jvm.MethodName) ({ cls := "ExemptDesk", name := "bestMethod", desc := "(II)I" } : Jvm.MethodName)) ∈ lw_all := lw_g (lw_at lw_m9 109 rfl) rfl
theorem q2152 : (Jvm.Cond.code ({ cls := "ExemptDesk", name := "bestMethod", desc := "(II)I" } : Jvm.MethodName) prog_1_method_43_code (5 : Nat) (Option.some Jvm.ClassFile.FieldType.int)) ∈ lw_all := lw_g (lw_at lw_m9 110 rfl) rfl
theorem q2153 : (Jvm.Cond.interfaceEntry "ExemptDesk" (414 : Nat)) ∈ lw_tbl := lw_at lw_m9 111 rfl
theorem q2154 : (Jvm.Cond.methodLink "ExemptDesk" (414 : Nat) ({ cls := "java/util/List", name := "size", desc := "()I" } : Jvm.MethodName)) ∈ lw_all := lw_g (lw_at lw_m9 112 rfl) rfl
theorem q2167 : (Jvm.Cond.instanceMethod ({ cls := "ExemptDesk", name := "bestStep", desc := "(II)I" } : Jvm.MethodName)) ∈ lw_all := lw_g (lw_at lw_m9 125 rfl) rfl
theorem q2168 : (Jvm.Cond.selects "ExemptDesk" ({ cls := "ExemptDesk", name := "bestStep", desc := "(II)I" } : Jvm.MethodName) ({ cls := "ExemptDesk", name := "bestStep", desc := "(II)I" } : Jvm.MethodName)) ∈ lw_all := lw_g (lw_at lw_m9 126 rfl) rfl
theorem q2169 : (Jvm.Cond.code ({ cls := "ExemptDesk", name := "bestStep", desc := "(II)I" } : Jvm.MethodName) prog_1_method_44_code (8 : Nat) (Option.some Jvm.ClassFile.FieldType.int)) ∈ lw_all := lw_g (lw_at lw_m9 127 rfl) rfl
theorem q2170 : (Jvm.Cond.methodLink "ExemptDesk" (192 : Nat) ({ cls := "ExemptDesk$Text", name := "trader", desc := "(I)LExemptDesk$Trader;" } : Jvm.MethodName)) ∈ lw_all := lw_g (lw_at lw_m9 128 rfl) rfl
theorem q2172 : (Jvm.Cond.instanceMethod ({ cls := "ExemptDesk", name := "joint", desc := "(III)I" } : Jvm.MethodName)) ∈ lw_all := lw_g (lw_at lw_m9 130 rfl) rfl
theorem q2173 : (Jvm.Cond.selects "ExemptDesk" ({ cls := "ExemptDesk", name := "joint", desc := "(III)I" } : Jvm.MethodName) ({ cls := "ExemptDesk", name := "joint", desc := "(III)I" } : Jvm.MethodName)) ∈ lw_all := lw_g (lw_at lw_m9 131 rfl) rfl
theorem q2174 : (Jvm.Cond.code ({ cls := "ExemptDesk", name := "joint", desc := "(III)I" } : Jvm.MethodName) prog_1_method_45_code (5 : Nat) (Option.some Jvm.ClassFile.FieldType.int)) ∈ lw_all := lw_g (lw_at lw_m9 132 rfl) rfl
theorem q2175 : (Jvm.Cond.methodLink "ExemptDesk" (415 : Nat) ({ cls := "ExemptDesk$Sums", name := "be", desc := "(LExemptDesk$Sums;)V" } : Jvm.MethodName)) ∈ lw_all := lw_g (lw_at lw_m9 133 rfl) rfl
theorem q2176 : (Jvm.Cond.methodLink "ExemptDesk" (418 : Nat) ({ cls := "ExemptDesk$Sums", name := "add", desc := "(LExemptDesk$Sums;)V" } : Jvm.MethodName)) ∈ lw_all := lw_g (lw_at lw_m9 134 rfl) rfl
theorem q2178 : (Jvm.Cond.instanceMethod ({ cls := "ExemptDesk", name := "limitFor", desc := "(II)I" } : Jvm.MethodName)) ∈ lw_all := lw_g (lw_at lw_m9 136 rfl) rfl
theorem q2179 : (Jvm.Cond.selects "ExemptDesk" ({ cls := "ExemptDesk", name := "limitFor", desc := "(II)I" } : Jvm.MethodName) ({ cls := "ExemptDesk", name := "limitFor", desc := "(II)I" } : Jvm.MethodName)) ∈ lw_all := lw_g (lw_at lw_m9 137 rfl) rfl
theorem q2180 : (Jvm.Cond.code ({ cls := "ExemptDesk", name := "limitFor", desc := "(II)I" } : Jvm.MethodName) prog_1_method_46_code (7 : Nat) (Option.some Jvm.ClassFile.FieldType.int)) ∈ lw_all := lw_g (lw_at lw_m9 138 rfl) rfl
theorem q2181 : (Jvm.Cond.methodLink "ExemptDesk" (421 : Nat) ({ cls := "ExemptDesk$Sums", name := "tax", desc := "()J" } : Jvm.MethodName)) ∈ lw_all := lw_g (lw_at lw_m9 139 rfl) rfl
theorem q2183 : (Jvm.Cond.instanceMethod ({ cls := "ExemptDesk", name := "byBasis", desc := "(III)I" } : Jvm.MethodName)) ∈ lw_all := lw_g (lw_at lw_m9 141 rfl) rfl
theorem q2184 : (Jvm.Cond.selects "ExemptDesk" ({ cls := "ExemptDesk", name := "byBasis", desc := "(III)I" } : Jvm.MethodName) ({ cls := "ExemptDesk", name := "byBasis", desc := "(III)I" } : Jvm.MethodName)) ∈ lw_all := lw_g (lw_at lw_m9 142 rfl) rfl
theorem q2185 : (Jvm.Cond.code ({ cls := "ExemptDesk", name := "byBasis", desc := "(III)I" } : Jvm.MethodName) prog_1_method_47_code (7 : Nat) (Option.some Jvm.ClassFile.FieldType.int)) ∈ lw_all := lw_g (lw_at lw_m9 143 rfl) rfl
theorem q2186 : (Jvm.Cond.methodLinkNest "ExemptDesk" (424 : Nat) ({ cls := "ExemptDesk$Books", name := "fractionBy", desc := "(ILExemptDesk$Sums;)I" } : Jvm.MethodName) "ExemptDesk") ∈ lw_tbl := lw_at lw_m9 144 rfl
theorem q2187 : (Jvm.Cond.methodLink "ExemptDesk" (431 : Nat) ({ cls := "java/lang/Math", name := "min", desc := "(II)I" } : Jvm.MethodName)) ∈ lw_all := lw_g (lw_at lw_m9 145 rfl) rfl
theorem q2189 : (Jvm.Cond.instanceMethod ({ cls := "ExemptDesk", name := "leader", desc := "(I)I" } : Jvm.MethodName)) ∈ lw_all := lw_g (lw_at lw_m9 147 rfl) rfl
theorem q2190 : (Jvm.Cond.selects "ExemptDesk" ({ cls := "ExemptDesk", name := "leader", desc := "(I)I" } : Jvm.MethodName) ({ cls := "ExemptDesk", name := "leader", desc := "(I)I" } : Jvm.MethodName)) ∈ lw_all := lw_g (lw_at lw_m9 148 rfl) rfl
theorem q2191 : (Jvm.Cond.code ({ cls := "ExemptDesk", name := "leader", desc := "(I)I" } : Jvm.MethodName) prog_1_method_48_code (4 : Nat) (Option.some Jvm.ClassFile.FieldType.int)) ∈ lw_all := lw_g (lw_at lw_m9 149 rfl) rfl
theorem q2193 : (Jvm.Cond.instanceMethod ({ cls := "ExemptDesk", name := "rise", desc := "(I)I" } : Jvm.MethodName)) ∈ lw_all := lw_g (lw_at lw_m9 151 rfl) rfl
theorem q2194 : (Jvm.Cond.selects "ExemptDesk" ({ cls := "ExemptDesk", name := "rise", desc := "(I)I" } : Jvm.MethodName) ({ cls := "ExemptDesk", name := "rise", desc := "(I)I" } : Jvm.MethodName)) ∈ lw_all := lw_g (lw_at lw_m9 152 rfl) rfl
theorem q2195 : (Jvm.Cond.code ({ cls := "ExemptDesk", name := "rise", desc := "(I)I" } : Jvm.MethodName) prog_1_method_49_code (5 : Nat) (Option.some Jvm.ClassFile.FieldType.int)) ∈ lw_all := lw_g (lw_at lw_m9 153 rfl) rfl
theorem q2196 : (Jvm.Cond.methodLink "ExemptDesk" (436 : Nat) ({ cls := "java/lang/Math", name := "max", desc := "(II)I" } : Jvm.MethodName)) ∈ lw_all := lw_g (lw_at lw_m9 154 rfl) rfl
theorem q2198 : (Jvm.Cond.instanceMethod ({ cls := "ExemptDesk", name := "need", desc := "(II)I" } : Jvm.MethodName)) ∈ lw_all := lw_g (lw_at lw_m9 156 rfl) rfl
theorem q2199 : (Jvm.Cond.selects "ExemptDesk" ({ cls := "ExemptDesk", name := "need", desc := "(II)I" } : Jvm.MethodName) ({ cls := "ExemptDesk", name := "need", desc := "(II)I" } : Jvm.MethodName)) ∈ lw_all := lw_g (lw_at lw_m9 157 rfl) rfl
theorem q2200 : (Jvm.Cond.code ({ cls := "ExemptDesk", name := "need", desc := "(II)I" } : Jvm.MethodName) prog_1_method_51_code (7 : Nat) (Option.some Jvm.ClassFile.FieldType.int)) ∈ lw_all := lw_g (lw_at lw_m9 158 rfl) rfl
theorem q2201 : (Jvm.Cond.methodLink "ExemptDesk" (439 : Nat) ({ cls := "ExemptDesk", name := "isEnough", desc := "(LExemptDesk$Sums;III)Z" } : Jvm.MethodName)) ∈ lw_all := lw_g (lw_at lw_m9 159 rfl) rfl
theorem q2202 : (Jvm.Cond.privateMethod ({ cls := "ExemptDesk", name := "isEnough", desc := "(LExemptDesk$Sums;III)Z" } : Jvm.MethodName)) ∈ lw_tbl := lw_at lw_m9 160 rfl
theorem q2203 : (Jvm.Cond.instanceMethod ({ cls := "ExemptDesk", name := "isEnough", desc := "(LExemptDesk$Sums;III)Z" } : Jvm.MethodName)) ∈ lw_all := lw_g (lw_at lw_m9 161 rfl) rfl
theorem q2204 : (Jvm.Cond.code ({ cls := "ExemptDesk", name := "isEnough", desc := "(LExemptDesk$Sums;III)Z" } : Jvm.MethodName) prog_1_method_50_code (6 : Nat) (Option.some Jvm.ClassFile.FieldType.boolean)) ∈ lw_all := lw_g (lw_at lw_m9 162 rfl) rfl
theorem q2205 : (Jvm.Cond.constant "ExemptDesk" (443 : Nat) (99999999 : Int32)) ∈ lw_all := lw_g (lw_at lw_m9 163 rfl) rfl
theorem q2207 : (Jvm.Cond.instanceMethod ({ cls := "ExemptDesk", name := "room", desc := "(II)I" } : Jvm.MethodName)) ∈ lw_all := lw_g (lw_at lw_m9 165 rfl) rfl
theorem q2208 : (Jvm.Cond.selects "ExemptDesk" ({ cls := "ExemptDesk", name := "room", desc := "(II)I" } : Jvm.MethodName) ({ cls := "ExemptDesk", name := "room", desc := "(II)I" } : Jvm.MethodName)) ∈ lw_all := lw_g (lw_at lw_m9 166 rfl) rfl
theorem q2209 : (Jvm.Cond.code ({ cls := "ExemptDesk", name := "room", desc := "(II)I" } : Jvm.MethodName) prog_1_method_52_code (6 : Nat) (Option.some Jvm.ClassFile.FieldType.int)) ∈ lw_all := lw_g (lw_at lw_m9 167 rfl) rfl
theorem q2211 : (Jvm.Cond.instanceMethod ({ cls := "ExemptDesk", name := "would", desc := "(II)I" } : Jvm.MethodName)) ∈ lw_all := lw_g (lw_at lw_m9 169 rfl) rfl
theorem q2212 : (Jvm.Cond.selects "ExemptDesk" ({ cls := "ExemptDesk", name := "would", desc := "(II)I" } : Jvm.MethodName) ({ cls := "ExemptDesk", name := "would", desc := "(II)I" } : Jvm.MethodName)) ∈ lw_all := lw_g (lw_at lw_m9 170 rfl) rfl
theorem q2213 : (Jvm.Cond.code ({ cls := "ExemptDesk", name := "would", desc := "(II)I" } : Jvm.MethodName) prog_1_method_53_code (4 : Nat) (Option.some Jvm.ClassFile.FieldType.int)) ∈ lw_all := lw_g (lw_at lw_m9 171 rfl) rfl
theorem q2214 : (Jvm.Cond.methodLink "ExemptDesk" (444 : Nat) ({ cls := "ExemptDesk$Books", name := "baseNow", desc := "(LExemptDesk$Asset;)I" } : Jvm.MethodName)) ∈ lw_all := lw_g (lw_at lw_m9 172 rfl) rfl
theorem q2222 : (Jvm.Cond.methodLink "ExemptDesk" (447 : Nat) ({ cls := "ExemptDesk$Books", name := "finalOf", desc := "(LExemptDesk$Asset;III)I" } : Jvm.MethodName)) ∈ lw_all := lw_g (lw_at lw_m9 180 rfl) rfl
theorem q2224 : (Jvm.Cond.instanceMethod ({ cls := "ExemptDesk", name := "bestWait", desc := "(II)I" } : Jvm.MethodName)) ∈ lw_all := lw_g (lw_at lw_m9 182 rfl) rfl
theorem q2225 : (Jvm.Cond.selects "ExemptDesk" ({ cls := "ExemptDesk", name := "bestWait", desc := "(II)I" } : Jvm.MethodName) ({ cls := "ExemptDesk", name := "bestWait", desc := "(II)I" } : Jvm.MethodName)) ∈ lw_all := lw_g (lw_at lw_m9 183 rfl) rfl
theorem q2226 : (Jvm.Cond.code ({ cls := "ExemptDesk", name := "bestWait", desc := "(II)I" } : Jvm.MethodName) prog_1_method_54_code (15 : Nat) (Option.some Jvm.ClassFile.FieldType.int)) ∈ lw_all := lw_g (lw_at lw_m9 184 rfl) rfl
theorem q2227 : (Jvm.Cond.methodLink "ExemptDesk" (451 : Nat) ({ cls := "ExemptDesk$Books", name := "worthNow", desc := "(LExemptDesk$Asset;)I" } : Jvm.MethodName)) ∈ lw_all := lw_g (lw_at lw_m9 185 rfl) rfl
theorem q2228 : (Jvm.Cond.methodLink "ExemptDesk" (454 : Nat) ({ cls := "ExemptDesk$Asset", name := "share", desc := "(IIIILExemptDesk$Way;)J" } : Jvm.MethodName)) ∈ lw_all := lw_g (lw_at lw_m9 186 rfl) rfl
theorem q2230 : (Jvm.Cond.instanceMethod ({ cls := "ExemptDesk", name := "project", desc := "(II)I" } : Jvm.MethodName)) ∈ lw_all := lw_g (lw_at lw_m9 188 rfl) rfl
theorem q2231 : (Jvm.Cond.selects "ExemptDesk" ({ cls := "ExemptDesk", name := "project", desc := "(II)I" } : Jvm.MethodName) ({ cls := "ExemptDesk", name := "project", desc := "(II)I" } : Jvm.MethodName)) ∈ lw_all := lw_g (lw_at lw_m9 189 rfl) rfl
theorem q2232 : (Jvm.Cond.code ({ cls := "ExemptDesk", name := "project", desc := "(II)I" } : Jvm.MethodName) prog_1_method_55_code (10 : Nat) (Option.some Jvm.ClassFile.FieldType.int)) ∈ lw_all := lw_g (lw_at lw_m9 190 rfl) rfl
theorem q2233 : (Jvm.Cond.methodLink "ExemptDesk" (458 : Nat) ({ cls := "ExemptDesk$Way", name := "cut", desc := "(JJ)I" } : Jvm.MethodName)) ∈ lw_all := lw_g (lw_at lw_m9 191 rfl) rfl
theorem q2235 : (Jvm.Cond.instanceMethod ({ cls := "ExemptDesk", name := "ifUse", desc := "(II)I" } : Jvm.MethodName)) ∈ lw_all := lw_g (lw_at lw_m9 193 rfl) rfl
theorem q2236 : (Jvm.Cond.selects "ExemptDesk" ({ cls := "ExemptDesk", name := "ifUse", desc := "(II)I" } : Jvm.MethodName) ({ cls := "ExemptDesk", name := "ifUse", desc := "(II)I" } : Jvm.MethodName)) ∈ lw_all := lw_g (lw_at lw_m9 194 rfl) rfl
theorem q2237 : (Jvm.Cond.code ({ cls := "ExemptDesk", name := "ifUse", desc := "(II)I" } : Jvm.MethodName) prog_1_method_56_code (6 : Nat) (Option.some Jvm.ClassFile.FieldType.int)) ∈ lw_all := lw_g (lw_at lw_m9 195 rfl) rfl
theorem q2239 : (Jvm.Cond.instanceMethod ({ cls := "ExemptDesk", name := "owners", desc := "(I)I" } : Jvm.MethodName)) ∈ lw_all := lw_g (lw_at lw_m9 197 rfl) rfl
theorem q2240 : (Jvm.Cond.selects "ExemptDesk" ({ cls := "ExemptDesk", name := "owners", desc := "(I)I" } : Jvm.MethodName) ({ cls := "ExemptDesk", name := "owners", desc := "(I)I" } : Jvm.MethodName)) ∈ lw_all := lw_g (lw_at lw_m9 198 rfl) rfl
theorem q2241 : (Jvm.Cond.code ({ cls := "ExemptDesk", name := "owners", desc := "(I)I" } : Jvm.MethodName) prog_1_method_57_code (6 : Nat) (Option.some Jvm.ClassFile.FieldType.int)) ∈ lw_all := lw_g (lw_at lw_m9 199 rfl) rfl
theorem q2242 : (Jvm.Cond.classLink "ExemptDesk" (462 : Nat) "java/util/BitSet") ∈ lw_all := lw_g (lw_at lw_m9 200 rfl) rfl
theorem q2243 : (Jvm.Cond.methodLink "ExemptDesk" (464 : Nat) ({ cls := "java/util/BitSet", name := "<init>", desc := "()V" } : Jvm.MethodName)) ∈ lw_all := lw_g (lw_at lw_m9 201 rfl) rfl
theorem q2244 : (Jvm.Cond.methodLink "ExemptDesk" (465 : Nat) ({ cls := "java/util/BitSet", name := "set", desc := "(I)V" } : Jvm.MethodName)) ∈ lw_all := lw_g (lw_at lw_m9 202 rfl) rfl
theorem q2245 : (Jvm.Cond.methodLink "ExemptDesk" (468 : Nat) ({ cls := "java/util/BitSet", name := "cardinality", desc := "()I" } : Jvm.MethodName)) ∈ lw_all := lw_g (lw_at lw_m9 203 rfl) rfl
theorem q2256 : (Jvm.Cond.instanceMethod ({ cls := "ExemptDesk", name := "even", desc := "(II)I" } : Jvm.MethodName)) ∈ lw_all := lw_g (lw_at lw_m9 214 rfl) rfl
theorem q2257 : (Jvm.Cond.selects "ExemptDesk" ({ cls := "ExemptDesk", name := "even", desc := "(II)I" } : Jvm.MethodName) ({ cls := "ExemptDesk", name := "even", desc := "(II)I" } : Jvm.MethodName)) ∈ lw_all := lw_g (lw_at lw_m9 215 rfl) rfl
theorem q2258 : (Jvm.Cond.code ({ cls := "ExemptDesk", name := "even", desc := "(II)I" } : Jvm.MethodName) prog_1_method_58_code (5 : Nat) (Option.some Jvm.ClassFile.FieldType.int)) ∈ lw_all := lw_g (lw_at lw_m9 216 rfl) rfl
theorem q2259 : (Jvm.Cond.constantLong "ExemptDesk" (471 : Nat) (-99999 : Int64)) ∈ lw_all := lw_g (lw_at lw_m9 217 rfl) rfl
theorem q2261 : (Jvm.Cond.instanceMethod ({ cls := "ExemptDesk", name := "worth", desc := "(I)I" } : Jvm.MethodName)) ∈ lw_all := lw_g (lw_at lw_m9 219 rfl) rfl
theorem q2262 : (Jvm.Cond.selects "ExemptDesk" ({ cls := "ExemptDesk", name := "worth", desc := "(I)I" } : Jvm.MethodName) ({ cls := "ExemptDesk", name := "worth", desc := "(I)I" } : Jvm.MethodName)) ∈ lw_all := lw_g (lw_at lw_m9 220 rfl) rfl
theorem q2263 : (Jvm.Cond.code ({ cls := "ExemptDesk", name := "worth", desc := "(I)I" } : Jvm.MethodName) prog_1_method_59_code (3 : Nat) (Option.some Jvm.ClassFile.FieldType.int)) ∈ lw_all := lw_g (lw_at lw_m9 221 rfl) rfl
theorem q2265 : (Jvm.Cond.instanceMethod ({ cls := "ExemptDesk", name := "tried", desc := "(III)I" } : Jvm.MethodName)) ∈ lw_all := lw_g (lw_at lw_m9 223 rfl) rfl
theorem q2266 : (Jvm.Cond.selects "ExemptDesk" ({ cls := "ExemptDesk", name := "tried", desc := "(III)I" } : Jvm.MethodName) ({ cls := "ExemptDesk", name := "tried", desc := "(III)I" } : Jvm.MethodName)) ∈ lw_all := lw_g (lw_at lw_m9 224 rfl) rfl
theorem q2267 : (Jvm.Cond.code ({ cls := "ExemptDesk", name := "tried", desc := "(III)I" } : Jvm.MethodName) prog_1_method_60_code (5 : Nat) (Option.some Jvm.ClassFile.FieldType.int)) ∈ lw_all := lw_g (lw_at lw_m9 225 rfl) rfl
theorem q2269 : (Jvm.Cond.instanceMethod ({ cls := "ExemptDesk", name := "chance", desc := "(III)I" } : Jvm.MethodName)) ∈ lw_all := lw_g (lw_at lw_m9 227 rfl) rfl
theorem q2270 : (Jvm.Cond.selects "ExemptDesk" ({ cls := "ExemptDesk", name := "chance", desc := "(III)I" } : Jvm.MethodName) ({ cls := "ExemptDesk", name := "chance", desc := "(III)I" } : Jvm.MethodName)) ∈ lw_all := lw_g (lw_at lw_m9 228 rfl) rfl
theorem q2271 : (Jvm.Cond.code ({ cls := "ExemptDesk", name := "chance", desc := "(III)I" } : Jvm.MethodName) prog_1_method_62_code (6 : Nat) (Option.some Jvm.ClassFile.FieldType.int)) ∈ lw_all := lw_g (lw_at lw_m9 229 rfl) rfl
theorem q2272 : (Jvm.Cond.constantLong "ExemptDesk" (478 : Nat) (8 : Int64)) ∈ lw_all := lw_g (lw_at lw_m9 230 rfl) rfl
theorem q2273 : (Jvm.Cond.methodLink "ExemptDesk" (483 : Nat) ({ cls := "ExemptDesk", name := "draw", desc := "(I)I" } : Jvm.MethodName)) ∈ lw_all := lw_g (lw_at lw_m9 231 rfl) rfl
theorem q2274 : (Jvm.Cond.privateMethod ({ cls := "ExemptDesk", name := "draw", desc := "(I)I" } : Jvm.MethodName)) ∈ lw_tbl := lw_at lw_m9 232 rfl
theorem q2275 : (Jvm.Cond.instanceMethod ({ cls := "ExemptDesk", name := "draw", desc := "(I)I" } : Jvm.MethodName)) ∈ lw_all := lw_g (lw_at lw_m9 233 rfl) rfl
theorem q2276 : (Jvm.Cond.code ({ cls := "ExemptDesk", name := "draw", desc := "(I)I" } : Jvm.MethodName) prog_1_method_61_code (2 : Nat) (Option.some Jvm.ClassFile.FieldType.int)) ∈ lw_all := lw_g (lw_at lw_m9 234 rfl) rfl
theorem q2277 : (Jvm.Cond.methodLink "ExemptDesk" (476 : Nat) ({ cls := "ExemptDesk", name := "next", desc := "(I)I" } : Jvm.MethodName)) ∈ lw_all := lw_g (lw_at lw_m9 235 rfl) rfl
theorem q2278 : (Jvm.Cond.static ({ cls := "ExemptDesk", name := "next", desc := "(I)I" } : Jvm.MethodName)) ∈ lw_all := lw_g (lw_at lw_m9 236 rfl) rfl
theorem q2279 : (Jvm.Cond.code ({ cls := "ExemptDesk", name := "next", desc := "(I)I" } : Jvm.MethodName) prog_1_method_3_code (1 : Nat) (Option.some Jvm.ClassFile.FieldType.int)) ∈ lw_all := lw_g (lw_at lw_m9 237 rfl) rfl
theorem q2280 : (Jvm.Cond.constant "ExemptDesk" (1 : Nat) (1103515245 : Int32)) ∈ lw_all := lw_g (lw_at lw_m9 238 rfl) rfl
theorem q2281 : (Jvm.Cond.constant "ExemptDesk" (4 : Nat) (2147483647 : Int32)) ∈ lw_all := lw_g (lw_at lw_m9 239 rfl) rfl
theorem q2283 : (Jvm.Cond.instanceMethod ({ cls := "ExemptDesk", name := "farthest", desc := "(I)I" } : Jvm.MethodName)) ∈ lw_all := lw_g (lw_at lw_m10 1 rfl) rfl
theorem q2284 : (Jvm.Cond.selects "ExemptDesk" ({ cls := "ExemptDesk", name := "farthest", desc := "(I)I" } : Jvm.MethodName) ({ cls := "ExemptDesk", name := "farthest", desc := "(I)I" } : Jvm.MethodName)) ∈ lw_all := lw_g (lw_at lw_m10 2 rfl) rfl
theorem q2285 : (Jvm.Cond.code ({ cls := "ExemptDesk", name := "farthest", desc := "(I)I" } : Jvm.MethodName) prog_1_method_63_code (4 : Nat) (Option.some Jvm.ClassFile.FieldType.int)) ∈ lw_all := lw_g (lw_at lw_m10 3 rfl) rfl
theorem q2286 : (Jvm.Cond.methodLink "ExemptDesk" (489 : Nat) ({ cls := "java/lang/Math", name := "abs", desc := "(I)I" } : Jvm.MethodName)) ∈ lw_all := lw_g (lw_at lw_m10 4 rfl) rfl
theorem q2290 : (Jvm.Cond.instanceMethod ({ cls := "ExemptDesk", name := "undo", desc := "()I" } : Jvm.MethodName)) ∈ lw_all := lw_g (lw_at lw_m10 8 rfl) rfl
theorem q2291 : (Jvm.Cond.selects "ExemptDesk" ({ cls := "ExemptDesk", name := "undo", desc := "()I" } : Jvm.MethodName) ({ cls := "ExemptDesk", name := "undo", desc := "()I" } : Jvm.MethodName)) ∈ lw_all := lw_g (lw_at lw_m10 9 rfl) rfl
theorem q2292 : (Jvm.Cond.code ({ cls := "ExemptDesk", name := "undo", desc := "()I" } : Jvm.MethodName) prog_1_method_64_code (1 : Nat) (Option.some Jvm.ClassFile.FieldType.int)) ∈ lw_all := lw_g (lw_at lw_m10 10 rfl) rfl
theorem q2293 : (Jvm.Cond.methodLink "ExemptDesk" (492 : Nat) ({ cls := "java/util/LinkedList", name := "isEmpty", desc := "()Z" } : Jvm.MethodName)) ∈ lw_all := lw_g (lw_at lw_m10 11 rfl) rfl
theorem q2300 : (Jvm.Cond.methodLink "ExemptDesk" (495 : Nat) ({ cls := "java/util/LinkedList", name := "removeLast", desc := "()Ljava/lang/Object;" } : Jvm.MethodName)) ∈ lw_all := lw_g (lw_at lw_m10 18 rfl) rfl
theorem q2309 : (Jvm.Cond.instanceMethod ({ cls := "ExemptDesk", name := "keep", desc := "()I" } : Jvm.MethodName)) ∈ lw_all := lw_g (lw_at lw_m10 27 rfl) rfl
theorem q2310 : (Jvm.Cond.selects "ExemptDesk" ({ cls := "ExemptDesk", name := "keep", desc := "()I" } : Jvm.MethodName) ({ cls := "ExemptDesk", name := "keep", desc := "()I" } : Jvm.MethodName)) ∈ lw_all := lw_g (lw_at lw_m10 28 rfl) rfl
theorem q2311 : (Jvm.Cond.code ({ cls := "ExemptDesk", name := "keep", desc := "()I" } : Jvm.MethodName) prog_1_method_65_code (1 : Nat) (Option.some Jvm.ClassFile.FieldType.int)) ∈ lw_all := lw_g (lw_at lw_m10 29 rfl) rfl
theorem q2313 : (Jvm.Cond.instanceMethod ({ cls := "ExemptDesk", name := "back", desc := "()I" } : Jvm.MethodName)) ∈ lw_all := lw_g (lw_at lw_m10 31 rfl) rfl
theorem q2314 : (Jvm.Cond.selects "ExemptDesk" ({ cls := "ExemptDesk", name := "back", desc := "()I" } : Jvm.MethodName) ({ cls := "ExemptDesk", name := "back", desc := "()I" } : Jvm.MethodName)) ∈ lw_all := lw_g (lw_at lw_m10 32 rfl) rfl
theorem q2315 : (Jvm.Cond.code ({ cls := "ExemptDesk", name := "back", desc := "()I" } : Jvm.MethodName) prog_1_method_66_code (1 : Nat) (Option.some Jvm.ClassFile.FieldType.int)) ∈ lw_all := lw_g (lw_at lw_m10 33 rfl) rfl
theorem q2317 : (Jvm.Cond.instanceMethod ({ cls := "ExemptDesk", name := "count", desc := "(I)I" } : Jvm.MethodName)) ∈ lw_all := lw_g (lw_at lw_m10 35 rfl) rfl
theorem q2318 : (Jvm.Cond.selects "ExemptDesk" ({ cls := "ExemptDesk", name := "count", desc := "(I)I" } : Jvm.MethodName) ({ cls := "ExemptDesk", name := "count", desc := "(I)I" } : Jvm.MethodName)) ∈ lw_all := lw_g (lw_at lw_m10 36 rfl) rfl
theorem q2319 : (Jvm.Cond.code ({ cls := "ExemptDesk", name := "count", desc := "(I)I" } : Jvm.MethodName) prog_1_method_67_code (2 : Nat) (Option.some Jvm.ClassFile.FieldType.int)) ∈ lw_all := lw_g (lw_at lw_m10 37 rfl) rfl
theorem q2341 : (Jvm.Cond.instanceMethod ({ cls := "ExemptDesk", name := "trader", desc := "(II)I" } : Jvm.MethodName)) ∈ lw_all := lw_g (lw_at lw_m10 59 rfl) rfl
theorem q2342 : (Jvm.Cond.selects "ExemptDesk" ({ cls := "ExemptDesk", name := "trader", desc := "(II)I" } : Jvm.MethodName) ({ cls := "ExemptDesk", name := "trader", desc := "(II)I" } : Jvm.MethodName)) ∈ lw_all := lw_g (lw_at lw_m10 60 rfl) rfl
theorem q2343 : (Jvm.Cond.code ({ cls := "ExemptDesk", name := "trader", desc := "(II)I" } : Jvm.MethodName) prog_1_method_17_code (4 : Nat) (Option.some Jvm.ClassFile.FieldType.int)) ∈ lw_all := lw_g (lw_at lw_m10 61 rfl) rfl
theorem q2344 : (Jvm.Cond.classLink "ExemptDesk" (189 : Nat) "java/lang/IndexOutOfBoundsException") ∈ lw_all := lw_g (lw_at lw_m10 62 rfl) rfl
theorem q2345 : (Jvm.Cond.methodLink "ExemptDesk" (191 : Nat) ({ cls := "java/lang/IndexOutOfBoundsException", name := "<init>", desc := "()V" } : Jvm.MethodName)) ∈ lw_all := lw_g (lw_at lw_m10 63 rfl) rfl
theorem q2349 : (Jvm.Cond.methodLink "ExemptDesk" (213 : Nat) ({ cls := "ExemptDesk", name := "open", desc := "(I)I" } : Jvm.MethodName)) ∈ lw_all := lw_g (lw_at lw_m10 67 rfl) rfl
theorem q2350 : (Jvm.Cond.privateMethod ({ cls := "ExemptDesk", name := "open", desc := "(I)I" } : Jvm.MethodName)) ∈ lw_tbl := lw_at lw_m10 68 rfl
theorem q2351 : (Jvm.Cond.instanceMethod ({ cls := "ExemptDesk", name := "open", desc := "(I)I" } : Jvm.MethodName)) ∈ lw_all := lw_g (lw_at lw_m10 69 rfl) rfl
theorem q2352 : (Jvm.Cond.code ({ cls := "ExemptDesk", name := "open", desc := "(I)I" } : Jvm.MethodName) prog_1_method_16_code (5 : Nat) (Option.some Jvm.ClassFile.FieldType.int)) ∈ lw_all := lw_g (lw_at lw_m10 70 rfl) rfl
theorem q2353 : (Jvm.Cond.methodLink "ExemptDesk" (164 : Nat) ({ cls := "java/util/LinkedList", name := "iterator", desc := "()Ljava/util/Iterator;" } : Jvm.MethodName)) ∈ lw_all := lw_g (lw_at lw_m10 71 rfl) rfl
theorem q2354 : (Jvm.Cond.interfaceEntry "ExemptDesk" (168 : Nat)) ∈ lw_tbl := lw_at lw_m10 72 rfl
theorem q2355 : (Jvm.Cond.methodLink "ExemptDesk" (168 : Nat) ({ cls := "java/util/Iterator", name := "hasNext", desc := "()Z" } : Jvm.MethodName)) ∈ lw_all := lw_g (lw_at lw_m10 73 rfl) rfl
theorem q2356 : (Jvm.Cond.classLink "ExemptDesk" (146 : Nat) "ExemptDesk$Asset") ∈ lw_all := lw_g (lw_at lw_m10 74 rfl) rfl
theorem q2357 : (Jvm.Cond.classLink "ExemptDesk" (216 : Nat) "java/util/NoSuchElementException") ∈ lw_all := lw_g (lw_at lw_m10 75 rfl) rfl
theorem q2358 : (Jvm.Cond.methodLink "ExemptDesk" (218 : Nat) ({ cls := "java/util/NoSuchElementException", name := "<init>", desc := "()V" } : Jvm.MethodName)) ∈ lw_all := lw_g (lw_at lw_m10 76 rfl) rfl
theorem q2968 : (Jvm.Cond.castable "ExemptDesk" "java/lang/Object") ∈ lw_tbl := lw_at lw_m12 206 rfl
theorem q3015 : (Jvm.Cond.stringRef "ExemptDesk" (512 : Nat) "trader") ∈ lw_tbl := lw_at lw_m13 13 rfl
theorem q3016 : (Jvm.Cond.stringRef "ExemptDesk" (513 : Nat) "head") ∈ lw_tbl := lw_at lw_m13 14 rfl
theorem q3017 : (Jvm.Cond.stringRef "ExemptDesk" (515 : Nat) "start") ∈ lw_tbl := lw_at lw_m13 15 rfl
theorem q3018 : (Jvm.Cond.stringRef "ExemptDesk" (516 : Nat) "round") ∈ lw_tbl := lw_at lw_m13 16 rfl
theorem q3019 : (Jvm.Cond.stringRef "ExemptDesk" (518 : Nat) "step") ∈ lw_tbl := lw_at lw_m13 17 rfl
theorem q3020 : (Jvm.Cond.stringRef "ExemptDesk" (519 : Nat) "limit") ∈ lw_tbl := lw_at lw_m13 18 rfl
theorem q3021 : (Jvm.Cond.stringRef "ExemptDesk" (520 : Nat) "seed") ∈ lw_tbl := lw_at lw_m13 19 rfl
theorem q3022 : (Jvm.Cond.stringRef "ExemptDesk" (521 : Nat) "sale") ∈ lw_tbl := lw_at lw_m13 20 rfl
theorem q3023 : (Jvm.Cond.stringRef "ExemptDesk" (523 : Nat) "buy") ∈ lw_tbl := lw_at lw_m13 21 rfl
theorem q3024 : (Jvm.Cond.stringRef "ExemptDesk" (525 : Nat) "asset") ∈ lw_tbl := lw_at lw_m13 22 rfl
theorem q3025 : (Jvm.Cond.stringRef "ExemptDesk" (526 : Nat) "up") ∈ lw_tbl := lw_at lw_m13 23 rfl
theorem q3026 : (Jvm.Cond.stringRef "ExemptDesk" (528 : Nat) "down") ∈ lw_tbl := lw_at lw_m13 24 rfl
theorem q3027 : (Jvm.Cond.stringRef "ExemptDesk" (530 : Nat) "near") ∈ lw_tbl := lw_at lw_m13 25 rfl

