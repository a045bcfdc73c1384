set_option maxRecDepth 100000
abbrev cX6_init : ByteArray := prog_3_method_1_code
def yX6_init : MethodName := ⟨RX6, "<init>", "(LExemptDesk;)V"⟩
def dkwX6_init_8 : List UInt8 := [167, 255, 219, 177]
abbrev dktX6_init_8 : List UInt8 := dkwX6_init_8 ++ []
def dkwX6_init_7 : List UInt8 := [180, 0, 17, 28, 50, 29, 187, 0, 68, 89, 183, 0, 70, 83, 132, 3, 1, 167, 255, 232, 132, 2, 1]
abbrev dktX6_init_7 : List UInt8 := dkwX6_init_7 ++ dktX6_init_8
def dkwX6_init_6 : List UInt8 := [183, 0, 70, 181, 0, 71, 3, 61, 28, 7, 162, 0, 38, 3, 62, 29, 16, 64, 162, 0, 24, 42]
abbrev dktX6_init_6 : List UInt8 := dkwX6_init_6 ++ dktX6_init_7
def dkwX6_init_5 : List UInt8 := [183, 0, 56, 181, 0, 57, 42, 187, 0, 61, 89, 183, 0, 63, 181, 0, 64, 42, 187, 0, 68, 89]
abbrev dktX6_init_5 : List UInt8 := dkwX6_init_5 ++ dktX6_init_6
def dkwX6_init_4 : List UInt8 := [89, 183, 0, 46, 181, 0, 47, 42, 187, 0, 44, 89, 183, 0, 46, 181, 0, 51, 42, 187, 0, 54, 89]
abbrev dktX6_init_4 : List UInt8 := dkwX6_init_4 ++ dktX6_init_5
def dkwX6_init_3 : List UInt8 := [181, 0, 34, 42, 7, 188, 10, 181, 0, 38, 42, 7, 7, 197, 0, 20, 2, 181, 0, 41, 42, 187, 0, 44]
abbrev dktX6_init_3 : List UInt8 := dkwX6_init_3 ++ dktX6_init_4
def dkwX6_init_2 : List UInt8 := [197, 0, 20, 2, 181, 0, 28, 42, 7, 16, 16, 197, 0, 20, 2, 181, 0, 31, 42, 7, 188, 10]
abbrev dktX6_init_2 : List UInt8 := dkwX6_init_2 ++ dktX6_init_3
def dkwX6_init_1 : List UInt8 := [197, 0, 20, 2, 181, 0, 22, 42, 7, 16, 64, 197, 0, 20, 2, 181, 0, 25, 42, 7, 16, 16]
abbrev dktX6_init_1 : List UInt8 := dkwX6_init_1 ++ dktX6_init_2
def dkwX6_init_0 : List UInt8 := [42, 43, 181, 0, 3, 42, 183, 0, 9, 42, 7, 16, 64, 197, 0, 15, 2, 181, 0, 17, 42, 7, 16, 64]
abbrev dktX6_init_0 : List UInt8 := dkwX6_init_0 ++ dktX6_init_1
theorem dksX6_init_0 : cX6_init.data.toList.drop 0 = dktX6_init_0 := by decide +kernel
theorem dksX6_init_1 : cX6_init.data.toList.drop 24 = dktX6_init_1 := dk_seg dksX6_init_0 24 rfl rfl
theorem dksX6_init_2 : cX6_init.data.toList.drop 46 = dktX6_init_2 := dk_seg dksX6_init_1 22 rfl rfl
theorem dksX6_init_3 : cX6_init.data.toList.drop 68 = dktX6_init_3 := dk_seg dksX6_init_2 22 rfl rfl
theorem dksX6_init_4 : cX6_init.data.toList.drop 92 = dktX6_init_4 := dk_seg dksX6_init_3 24 rfl rfl
theorem dksX6_init_5 : cX6_init.data.toList.drop 115 = dktX6_init_5 := dk_seg dksX6_init_4 23 rfl rfl
theorem dksX6_init_6 : cX6_init.data.toList.drop 137 = dktX6_init_6 := dk_seg dksX6_init_5 22 rfl rfl
theorem dksX6_init_7 : cX6_init.data.toList.drop 159 = dktX6_init_7 := dk_seg dksX6_init_6 22 rfl rfl
theorem dksX6_init_8 : cX6_init.data.toList.drop 182 = dktX6_init_8 := dk_seg dksX6_init_7 23 rfl rfl
theorem dX6_init_0 : decode cX6_init 0 = .ok (.aload_n 0, 1) := dk_42 (dk_at dksX6_init_0 0 rfl rfl)
theorem dX6_init_1 : decode cX6_init 1 = .ok (.aload_n 1, 1) := dk_43 (dk_at dksX6_init_0 1 rfl rfl)
theorem dX6_init_2 : decode cX6_init 2 = .ok (.putfield 3, 3) := dk_181 0 3 (dk_at dksX6_init_0 2 rfl rfl)
theorem dX6_init_5 : decode cX6_init 5 = .ok (.aload_n 0, 1) := dk_42 (dk_at dksX6_init_0 5 rfl rfl)
theorem dX6_init_6 : decode cX6_init 6 = .ok (.invokespecial 9, 3) := dk_183 0 9 (dk_at dksX6_init_0 6 rfl rfl)
theorem dX6_init_9 : decode cX6_init 9 = .ok (.aload_n 0, 1) := dk_42 (dk_at dksX6_init_0 9 rfl rfl)
theorem dX6_init_10 : decode cX6_init 10 = .ok (.iconst 4, 1) := dk_7 (dk_at dksX6_init_0 10 rfl rfl)
theorem dX6_init_11 : decode cX6_init 11 = .ok (.bipush 64, 2) := dk_16 64 (dk_at dksX6_init_0 11 rfl rfl)
theorem dX6_init_13 : decode cX6_init 13 = .ok (.multianewarray 15 2, 4) := by decide +kernel
theorem dX6_init_17 : decode cX6_init 17 = .ok (.putfield 17, 3) := dk_181 0 17 (dk_at dksX6_init_0 17 rfl rfl)
theorem dX6_init_20 : decode cX6_init 20 = .ok (.aload_n 0, 1) := dk_42 (dk_at dksX6_init_0 20 rfl rfl)
theorem dX6_init_21 : decode cX6_init 21 = .ok (.iconst 4, 1) := dk_7 (dk_at dksX6_init_0 21 rfl rfl)
theorem dX6_init_22 : decode cX6_init 22 = .ok (.bipush 64, 2) := dk_16 64 (dk_at dksX6_init_0 22 rfl rfl)
theorem dX6_init_24 : decode cX6_init 24 = .ok (.multianewarray 20 2, 4) := by decide +kernel
theorem dX6_init_28 : decode cX6_init 28 = .ok (.putfield 22, 3) := dk_181 0 22 (dk_at dksX6_init_1 4 rfl rfl)
theorem dX6_init_31 : decode cX6_init 31 = .ok (.aload_n 0, 1) := dk_42 (dk_at dksX6_init_1 7 rfl rfl)
theorem dX6_init_32 : decode cX6_init 32 = .ok (.iconst 4, 1) := dk_7 (dk_at dksX6_init_1 8 rfl rfl)
theorem dX6_init_33 : decode cX6_init 33 = .ok (.bipush 64, 2) := dk_16 64 (dk_at dksX6_init_1 9 rfl rfl)
theorem dX6_init_35 : decode cX6_init 35 = .ok (.multianewarray 20 2, 4) := by decide +kernel
theorem dX6_init_39 : decode cX6_init 39 = .ok (.putfield 25, 3) := dk_181 0 25 (dk_at dksX6_init_1 15 rfl rfl)
theorem dX6_init_42 : decode cX6_init 42 = .ok (.aload_n 0, 1) := dk_42 (dk_at dksX6_init_1 18 rfl rfl)
theorem dX6_init_43 : decode cX6_init 43 = .ok (.iconst 4, 1) := dk_7 (dk_at dksX6_init_1 19 rfl rfl)
theorem dX6_init_44 : decode cX6_init 44 = .ok (.bipush 16, 2) := dk_16 16 (dk_at dksX6_init_1 20 rfl rfl)
theorem dX6_init_46 : decode cX6_init 46 = .ok (.multianewarray 20 2, 4) := by decide +kernel
theorem dX6_init_50 : decode cX6_init 50 = .ok (.putfield 28, 3) := dk_181 0 28 (dk_at dksX6_init_2 4 rfl rfl)
theorem dX6_init_53 : decode cX6_init 53 = .ok (.aload_n 0, 1) := dk_42 (dk_at dksX6_init_2 7 rfl rfl)
theorem dX6_init_54 : decode cX6_init 54 = .ok (.iconst 4, 1) := dk_7 (dk_at dksX6_init_2 8 rfl rfl)
theorem dX6_init_55 : decode cX6_init 55 = .ok (.bipush 16, 2) := dk_16 16 (dk_at dksX6_init_2 9 rfl rfl)
theorem dX6_init_57 : decode cX6_init 57 = .ok (.multianewarray 20 2, 4) := by decide +kernel
theorem dX6_init_61 : decode cX6_init 61 = .ok (.putfield 31, 3) := dk_181 0 31 (dk_at dksX6_init_2 15 rfl rfl)
theorem dX6_init_64 : decode cX6_init 64 = .ok (.aload_n 0, 1) := dk_42 (dk_at dksX6_init_2 18 rfl rfl)
theorem dX6_init_65 : decode cX6_init 65 = .ok (.iconst 4, 1) := dk_7 (dk_at dksX6_init_2 19 rfl rfl)
theorem dX6_init_66 : decode cX6_init 66 = .ok (.newarray .int, 2) := dk_188_10 (dk_at dksX6_init_2 20 rfl rfl)
theorem dX6_init_68 : decode cX6_init 68 = .ok (.putfield 34, 3) := dk_181 0 34 (dk_at dksX6_init_3 0 rfl rfl)
theorem dX6_init_71 : decode cX6_init 71 = .ok (.aload_n 0, 1) := dk_42 (dk_at dksX6_init_3 3 rfl rfl)
theorem dX6_init_72 : decode cX6_init 72 = .ok (.iconst 4, 1) := dk_7 (dk_at dksX6_init_3 4 rfl rfl)
theorem dX6_init_73 : decode cX6_init 73 = .ok (.newarray .int, 2) := dk_188_10 (dk_at dksX6_init_3 5 rfl rfl)
theorem dX6_init_75 : decode cX6_init 75 = .ok (.putfield 38, 3) := dk_181 0 38 (dk_at dksX6_init_3 7 rfl rfl)
theorem dX6_init_78 : decode cX6_init 78 = .ok (.aload_n 0, 1) := dk_42 (dk_at dksX6_init_3 10 rfl rfl)
theorem dX6_init_79 : decode cX6_init 79 = .ok (.iconst 4, 1) := dk_7 (dk_at dksX6_init_3 11 rfl rfl)
theorem dX6_init_80 : decode cX6_init 80 = .ok (.iconst 4, 1) := dk_7 (dk_at dksX6_init_3 12 rfl rfl)
theorem dX6_init_81 : decode cX6_init 81 = .ok (.multianewarray 20 2, 4) := by decide +kernel
theorem dX6_init_85 : decode cX6_init 85 = .ok (.putfield 41, 3) := dk_181 0 41 (dk_at dksX6_init_3 17 rfl rfl)
theorem dX6_init_88 : decode cX6_init 88 = .ok (.aload_n 0, 1) := dk_42 (dk_at dksX6_init_3 20 rfl rfl)
theorem dX6_init_89 : decode cX6_init 89 = .ok (.new 44, 3) := dk_187 0 44 (dk_at dksX6_init_3 21 rfl rfl)
theorem dX6_init_92 : decode cX6_init 92 = .ok (.dup, 1) := dk_89 (dk_at dksX6_init_4 0 rfl rfl)
theorem dX6_init_93 : decode cX6_init 93 = .ok (.invokespecial 46, 3) := dk_183 0 46 (dk_at dksX6_init_4 1 rfl rfl)
theorem dX6_init_96 : decode cX6_init 96 = .ok (.putfield 47, 3) := dk_181 0 47 (dk_at dksX6_init_4 4 rfl rfl)
theorem dX6_init_99 : decode cX6_init 99 = .ok (.aload_n 0, 1) := dk_42 (dk_at dksX6_init_4 7 rfl rfl)
theorem dX6_init_100 : decode cX6_init 100 = .ok (.new 44, 3) := dk_187 0 44 (dk_at dksX6_init_4 8 rfl rfl)
theorem dX6_init_103 : decode cX6_init 103 = .ok (.dup, 1) := dk_89 (dk_at dksX6_init_4 11 rfl rfl)
theorem dX6_init_104 : decode cX6_init 104 = .ok (.invokespecial 46, 3) := dk_183 0 46 (dk_at dksX6_init_4 12 rfl rfl)
theorem dX6_init_107 : decode cX6_init 107 = .ok (.putfield 51, 3) := dk_181 0 51 (dk_at dksX6_init_4 15 rfl rfl)
theorem dX6_init_110 : decode cX6_init 110 = .ok (.aload_n 0, 1) := dk_42 (dk_at dksX6_init_4 18 rfl rfl)
theorem dX6_init_111 : decode cX6_init 111 = .ok (.new 54, 3) := dk_187 0 54 (dk_at dksX6_init_4 19 rfl rfl)
theorem dX6_init_114 : decode cX6_init 114 = .ok (.dup, 1) := dk_89 (dk_at dksX6_init_4 22 rfl rfl)
theorem dX6_init_115 : decode cX6_init 115 = .ok (.invokespecial 56, 3) := dk_183 0 56 (dk_at dksX6_init_5 0 rfl rfl)
theorem dX6_init_118 : decode cX6_init 118 = .ok (.putfield 57, 3) := dk_181 0 57 (dk_at dksX6_init_5 3 rfl rfl)
theorem dX6_init_121 : decode cX6_init 121 = .ok (.aload_n 0, 1) := dk_42 (dk_at dksX6_init_5 6 rfl rfl)
theorem dX6_init_122 : decode cX6_init 122 = .ok (.new 61, 3) := dk_187 0 61 (dk_at dksX6_init_5 7 rfl rfl)
theorem dX6_init_125 : decode cX6_init 125 = .ok (.dup, 1) := dk_89 (dk_at dksX6_init_5 10 rfl rfl)
theorem dX6_init_126 : decode cX6_init 126 = .ok (.invokespecial 63, 3) := dk_183 0 63 (dk_at dksX6_init_5 11 rfl rfl)
theorem dX6_init_129 : decode cX6_init 129 = .ok (.putfield 64, 3) := dk_181 0 64 (dk_at dksX6_init_5 14 rfl rfl)
theorem dX6_init_132 : decode cX6_init 132 = .ok (.aload_n 0, 1) := dk_42 (dk_at dksX6_init_5 17 rfl rfl)
theorem dX6_init_133 : decode cX6_init 133 = .ok (.new 68, 3) := dk_187 0 68 (dk_at dksX6_init_5 18 rfl rfl)
theorem dX6_init_136 : decode cX6_init 136 = .ok (.dup, 1) := dk_89 (dk_at dksX6_init_5 21 rfl rfl)
theorem dX6_init_137 : decode cX6_init 137 = .ok (.invokespecial 70, 3) := dk_183 0 70 (dk_at dksX6_init_6 0 rfl rfl)
theorem dX6_init_140 : decode cX6_init 140 = .ok (.putfield 71, 3) := dk_181 0 71 (dk_at dksX6_init_6 3 rfl rfl)
theorem dX6_init_143 : decode cX6_init 143 = .ok (.iconst 0, 1) := dk_3 (dk_at dksX6_init_6 6 rfl rfl)
theorem dX6_init_144 : decode cX6_init 144 = .ok (.istore_n 2, 1) := dk_61 (dk_at dksX6_init_6 7 rfl rfl)
theorem dX6_init_145 : decode cX6_init 145 = .ok (.iload_n 2, 1) := dk_28 (dk_at dksX6_init_6 8 rfl rfl)
theorem dX6_init_146 : decode cX6_init 146 = .ok (.iconst 4, 1) := dk_7 (dk_at dksX6_init_6 9 rfl rfl)
theorem dX6_init_147 : decode cX6_init 147 = .ok (.if_icmp .ge 38, 3) := dk_162 0 38 (dk_at dksX6_init_6 10 rfl rfl)
theorem dX6_init_150 : decode cX6_init 150 = .ok (.iconst 0, 1) := dk_3 (dk_at dksX6_init_6 13 rfl rfl)
theorem dX6_init_151 : decode cX6_init 151 = .ok (.istore_n 3, 1) := dk_62 (dk_at dksX6_init_6 14 rfl rfl)
theorem dX6_init_152 : decode cX6_init 152 = .ok (.iload_n 3, 1) := dk_29 (dk_at dksX6_init_6 15 rfl rfl)
theorem dX6_init_153 : decode cX6_init 153 = .ok (.bipush 64, 2) := dk_16 64 (dk_at dksX6_init_6 16 rfl rfl)
theorem dX6_init_155 : decode cX6_init 155 = .ok (.if_icmp .ge 24, 3) := dk_162 0 24 (dk_at dksX6_init_6 18 rfl rfl)
theorem dX6_init_158 : decode cX6_init 158 = .ok (.aload_n 0, 1) := dk_42 (dk_at dksX6_init_6 21 rfl rfl)
theorem dX6_init_159 : decode cX6_init 159 = .ok (.getfield 17, 3) := dk_180 0 17 (dk_at dksX6_init_7 0 rfl rfl)
theorem dX6_init_162 : decode cX6_init 162 = .ok (.iload_n 2, 1) := dk_28 (dk_at dksX6_init_7 3 rfl rfl)
theorem dX6_init_163 : decode cX6_init 163 = .ok (.aaload, 1) := dk_50 (dk_at dksX6_init_7 4 rfl rfl)
theorem dX6_init_164 : decode cX6_init 164 = .ok (.iload_n 3, 1) := dk_29 (dk_at dksX6_init_7 5 rfl rfl)
theorem dX6_init_165 : decode cX6_init 165 = .ok (.new 68, 3) := dk_187 0 68 (dk_at dksX6_init_7 6 rfl rfl)
theorem dX6_init_168 : decode cX6_init 168 = .ok (.dup, 1) := dk_89 (dk_at dksX6_init_7 9 rfl rfl)
theorem dX6_init_169 : decode cX6_init 169 = .ok (.invokespecial 70, 3) := dk_183 0 70 (dk_at dksX6_init_7 10 rfl rfl)
theorem dX6_init_172 : decode cX6_init 172 = .ok (.aastore, 1) := dk_83 (dk_at dksX6_init_7 13 rfl rfl)
theorem dX6_init_173 : decode cX6_init 173 = .ok (.iinc 3 1, 3) := dk_132 3 1 (dk_at dksX6_init_7 14 rfl rfl)
theorem dX6_init_176 : decode cX6_init 176 = .ok (.goto (-24), 3) := dk_167 255 232 (dk_at dksX6_init_7 17 rfl rfl)
theorem dX6_init_179 : decode cX6_init 179 = .ok (.iinc 2 1, 3) := dk_132 2 1 (dk_at dksX6_init_7 20 rfl rfl)
theorem dX6_init_182 : decode cX6_init 182 = .ok (.goto (-37), 3) := dk_167 255 219 (dk_at dksX6_init_8 0 rfl rfl)
theorem dX6_init_185 : decode cX6_init 185 = .ok (.return_, 1) := dk_177 (dk_at dksX6_init_8 3 rfl rfl)
abbrev cX6_begin : ByteArray := prog_3_method_2_code
def yX6_begin : MethodName := ⟨RX6, "begin", "()LExemptDesk$Books;"⟩
def dkwX6_begin_3 : List UInt8 := [42, 176]
abbrev dktX6_begin_3 : List UInt8 := dkwX6_begin_3 ++ []
def dkwX6_begin_2 : List UInt8 := [180, 0, 3, 180, 0, 75, 27, 182, 0, 85, 180, 0, 100, 79, 132, 1, 1, 167, 255, 195, 42, 182, 0, 102]
abbrev dktX6_begin_2 : List UInt8 := dkwX6_begin_2 ++ dktX6_begin_3
def dkwX6_begin_1 : List UInt8 := [180, 0, 3, 180, 0, 75, 27, 182, 0, 85, 180, 0, 89, 184, 0, 94, 79, 42, 180, 0, 38, 27, 42]
abbrev dktX6_begin_1 : List UInt8 := dkwX6_begin_1 ++ dktX6_begin_2
def dkwX6_begin_0 : List UInt8 := [3, 60, 27, 42, 180, 0, 3, 180, 0, 75, 182, 0, 79, 162, 0, 53, 42, 180, 0, 34, 27, 3, 42]
abbrev dktX6_begin_0 : List UInt8 := dkwX6_begin_0 ++ dktX6_begin_1
theorem dksX6_begin_0 : cX6_begin.data.toList.drop 0 = dktX6_begin_0 := by decide +kernel
theorem dksX6_begin_1 : cX6_begin.data.toList.drop 23 = dktX6_begin_1 := dk_seg dksX6_begin_0 23 rfl rfl
theorem dksX6_begin_2 : cX6_begin.data.toList.drop 46 = dktX6_begin_2 := dk_seg dksX6_begin_1 23 rfl rfl
theorem dksX6_begin_3 : cX6_begin.data.toList.drop 70 = dktX6_begin_3 := dk_seg dksX6_begin_2 24 rfl rfl
theorem dX6_begin_0 : decode cX6_begin 0 = .ok (.iconst 0, 1) := dk_3 (dk_at dksX6_begin_0 0 rfl rfl)
theorem dX6_begin_1 : decode cX6_begin 1 = .ok (.istore_n 1, 1) := dk_60 (dk_at dksX6_begin_0 1 rfl rfl)
theorem dX6_begin_2 : decode cX6_begin 2 = .ok (.iload_n 1, 1) := dk_27 (dk_at dksX6_begin_0 2 rfl rfl)
theorem dX6_begin_3 : decode cX6_begin 3 = .ok (.aload_n 0, 1) := dk_42 (dk_at dksX6_begin_0 3 rfl rfl)
theorem dX6_begin_4 : decode cX6_begin 4 = .ok (.getfield 3, 3) := dk_180 0 3 (dk_at dksX6_begin_0 4 rfl rfl)
theorem dX6_begin_7 : decode cX6_begin 7 = .ok (.getfield 75, 3) := dk_180 0 75 (dk_at dksX6_begin_0 7 rfl rfl)
theorem dX6_begin_10 : decode cX6_begin 10 = .ok (.invokevirtual 79, 3) := dk_182 0 79 (dk_at dksX6_begin_0 10 rfl rfl)
theorem dX6_begin_13 : decode cX6_begin 13 = .ok (.if_icmp .ge 53, 3) := dk_162 0 53 (dk_at dksX6_begin_0 13 rfl rfl)
theorem dX6_begin_16 : decode cX6_begin 16 = .ok (.aload_n 0, 1) := dk_42 (dk_at dksX6_begin_0 16 rfl rfl)
theorem dX6_begin_17 : decode cX6_begin 17 = .ok (.getfield 34, 3) := dk_180 0 34 (dk_at dksX6_begin_0 17 rfl rfl)
theorem dX6_begin_20 : decode cX6_begin 20 = .ok (.iload_n 1, 1) := dk_27 (dk_at dksX6_begin_0 20 rfl rfl)
theorem dX6_begin_21 : decode cX6_begin 21 = .ok (.iconst 0, 1) := dk_3 (dk_at dksX6_begin_0 21 rfl rfl)
theorem dX6_begin_22 : decode cX6_begin 22 = .ok (.aload_n 0, 1) := dk_42 (dk_at dksX6_begin_0 22 rfl rfl)
theorem dX6_begin_23 : decode cX6_begin 23 = .ok (.getfield 3, 3) := dk_180 0 3 (dk_at dksX6_begin_1 0 rfl rfl)
theorem dX6_begin_26 : decode cX6_begin 26 = .ok (.getfield 75, 3) := dk_180 0 75 (dk_at dksX6_begin_1 3 rfl rfl)
theorem dX6_begin_29 : decode cX6_begin 29 = .ok (.iload_n 1, 1) := dk_27 (dk_at dksX6_begin_1 6 rfl rfl)
theorem dX6_begin_30 : decode cX6_begin 30 = .ok (.invokevirtual 85, 3) := dk_182 0 85 (dk_at dksX6_begin_1 7 rfl rfl)
theorem dX6_begin_33 : decode cX6_begin 33 = .ok (.getfield 89, 3) := dk_180 0 89 (dk_at dksX6_begin_1 10 rfl rfl)
theorem dX6_begin_36 : decode cX6_begin 36 = .ok (.invokestatic 94, 3) := dk_184 0 94 (dk_at dksX6_begin_1 13 rfl rfl)
theorem dX6_begin_39 : decode cX6_begin 39 = .ok (.iastore, 1) := dk_79 (dk_at dksX6_begin_1 16 rfl rfl)
theorem dX6_begin_40 : decode cX6_begin 40 = .ok (.aload_n 0, 1) := dk_42 (dk_at dksX6_begin_1 17 rfl rfl)
theorem dX6_begin_41 : decode cX6_begin 41 = .ok (.getfield 38, 3) := dk_180 0 38 (dk_at dksX6_begin_1 18 rfl rfl)
theorem dX6_begin_44 : decode cX6_begin 44 = .ok (.iload_n 1, 1) := dk_27 (dk_at dksX6_begin_1 21 rfl rfl)
theorem dX6_begin_45 : decode cX6_begin 45 = .ok (.aload_n 0, 1) := dk_42 (dk_at dksX6_begin_1 22 rfl rfl)
theorem dX6_begin_46 : decode cX6_begin 46 = .ok (.getfield 3, 3) := dk_180 0 3 (dk_at dksX6_begin_2 0 rfl rfl)
theorem dX6_begin_49 : decode cX6_begin 49 = .ok (.getfield 75, 3) := dk_180 0 75 (dk_at dksX6_begin_2 3 rfl rfl)
theorem dX6_begin_52 : decode cX6_begin 52 = .ok (.iload_n 1, 1) := dk_27 (dk_at dksX6_begin_2 6 rfl rfl)
theorem dX6_begin_53 : decode cX6_begin 53 = .ok (.invokevirtual 85, 3) := dk_182 0 85 (dk_at dksX6_begin_2 7 rfl rfl)
theorem dX6_begin_56 : decode cX6_begin 56 = .ok (.getfield 100, 3) := dk_180 0 100 (dk_at dksX6_begin_2 10 rfl rfl)
theorem dX6_begin_59 : decode cX6_begin 59 = .ok (.iastore, 1) := dk_79 (dk_at dksX6_begin_2 13 rfl rfl)
theorem dX6_begin_60 : decode cX6_begin 60 = .ok (.iinc 1 1, 3) := dk_132 1 1 (dk_at dksX6_begin_2 14 rfl rfl)
theorem dX6_begin_63 : decode cX6_begin 63 = .ok (.goto (-61), 3) := dk_167 255 195 (dk_at dksX6_begin_2 17 rfl rfl)
theorem dX6_begin_66 : decode cX6_begin 66 = .ok (.aload_n 0, 1) := dk_42 (dk_at dksX6_begin_2 20 rfl rfl)
theorem dX6_begin_67 : decode cX6_begin 67 = .ok (.invokevirtual 102, 3) := dk_182 0 102 (dk_at dksX6_begin_2 21 rfl rfl)
theorem dX6_begin_70 : decode cX6_begin 70 = .ok (.aload_n 0, 1) := dk_42 (dk_at dksX6_begin_3 0 rfl rfl)
theorem dX6_begin_71 : decode cX6_begin 71 = .ok (.areturn, 1) := dk_176 (dk_at dksX6_begin_3 1 rfl rfl)
abbrev cX6_comes : ByteArray := prog_3_method_4_code
def yX6_comes : MethodName := ⟨RX6, "comes", "()V"⟩
def dkwX6_comes_6 : List UInt8 := [180, 0, 177, 44, 180, 0, 180, 44, 180, 0, 183, 182, 0, 186, 167, 255, 194, 177]
abbrev dktX6_comes_6 : List UInt8 := dkwX6_comes_6 ++ []
def dkwX6_comes_5 : List UInt8 := [180, 0, 105, 160, 0, 35, 42, 180, 0, 47, 182, 0, 172, 16, 8, 162, 0, 23, 42, 44, 180, 0, 175, 44]
abbrev dktX6_comes_5 : List UInt8 := dkwX6_comes_5 ++ dktX6_comes_6
def dkwX6_comes_4 : List UInt8 := [43, 185, 0, 122, 1, 0, 153, 0, 59, 43, 185, 0, 128, 1, 0, 192, 0, 167, 77, 44, 180, 0, 169, 42]
abbrev dktX6_comes_4 : List UInt8 := dkwX6_comes_4 ++ dktX6_comes_5
def dkwX6_comes_3 : List UInt8 := [192, 0, 158, 5, 182, 0, 160, 167, 255, 233, 42, 180, 0, 3, 180, 0, 75, 180, 0, 166, 182, 0, 118, 76]
abbrev dktX6_comes_3 : List UInt8 := dkwX6_comes_3 ++ dktX6_comes_4
def dkwX6_comes_2 : List UInt8 := [180, 0, 163, 182, 0, 118, 76, 43, 185, 0, 122, 1, 0, 153, 0, 20, 42, 43, 185, 0, 128, 1, 0]
abbrev dktX6_comes_2 : List UInt8 := dkwX6_comes_2 ++ dktX6_comes_3
def dkwX6_comes_1 : List UInt8 := [43, 185, 0, 128, 1, 0, 192, 0, 158, 3, 182, 0, 160, 167, 255, 233, 42, 180, 0, 3, 180, 0, 75]
abbrev dktX6_comes_1 : List UInt8 := dkwX6_comes_1 ++ dktX6_comes_2
def dkwX6_comes_0 : List UInt8 := [42, 180, 0, 3, 180, 0, 75, 180, 0, 155, 182, 0, 118, 76, 43, 185, 0, 122, 1, 0, 153, 0, 20, 42]
abbrev dktX6_comes_0 : List UInt8 := dkwX6_comes_0 ++ dktX6_comes_1
theorem dksX6_comes_0 : cX6_comes.data.toList.drop 0 = dktX6_comes_0 := by decide +kernel
theorem dksX6_comes_1 : cX6_comes.data.toList.drop 24 = dktX6_comes_1 := dk_seg dksX6_comes_0 24 rfl rfl
theorem dksX6_comes_2 : cX6_comes.data.toList.drop 47 = dktX6_comes_2 := dk_seg dksX6_comes_1 23 rfl rfl
theorem dksX6_comes_3 : cX6_comes.data.toList.drop 70 = dktX6_comes_3 := dk_seg dksX6_comes_2 23 rfl rfl
theorem dksX6_comes_4 : cX6_comes.data.toList.drop 94 = dktX6_comes_4 := dk_seg dksX6_comes_3 24 rfl rfl
theorem dksX6_comes_5 : cX6_comes.data.toList.drop 118 = dktX6_comes_5 := dk_seg dksX6_comes_4 24 rfl rfl
theorem dksX6_comes_6 : cX6_comes.data.toList.drop 142 = dktX6_comes_6 := dk_seg dksX6_comes_5 24 rfl rfl
theorem dX6_comes_0 : decode cX6_comes 0 = .ok (.aload_n 0, 1) := dk_42 (dk_at dksX6_comes_0 0 rfl rfl)
theorem dX6_comes_1 : decode cX6_comes 1 = .ok (.getfield 3, 3) := dk_180 0 3 (dk_at dksX6_comes_0 1 rfl rfl)
theorem dX6_comes_4 : decode cX6_comes 4 = .ok (.getfield 75, 3) := dk_180 0 75 (dk_at dksX6_comes_0 4 rfl rfl)
theorem dX6_comes_7 : decode cX6_comes 7 = .ok (.getfield 155, 3) := dk_180 0 155 (dk_at dksX6_comes_0 7 rfl rfl)
theorem dX6_comes_10 : decode cX6_comes 10 = .ok (.invokevirtual 118, 3) := dk_182 0 118 (dk_at dksX6_comes_0 10 rfl rfl)
theorem dX6_comes_13 : decode cX6_comes 13 = .ok (.astore_n 1, 1) := dk_76 (dk_at dksX6_comes_0 13 rfl rfl)
theorem dX6_comes_14 : decode cX6_comes 14 = .ok (.aload_n 1, 1) := dk_43 (dk_at dksX6_comes_0 14 rfl rfl)
theorem dX6_comes_15 : decode cX6_comes 15 = .ok (.invokeinterface 122 1, 5) := by decide +kernel
theorem dX6_comes_20 : decode cX6_comes 20 = .ok (.ifCond .eq 20, 3) := dk_153 0 20 (dk_at dksX6_comes_0 20 rfl rfl)
theorem dX6_comes_23 : decode cX6_comes 23 = .ok (.aload_n 0, 1) := dk_42 (dk_at dksX6_comes_0 23 rfl rfl)
theorem dX6_comes_24 : decode cX6_comes 24 = .ok (.aload_n 1, 1) := dk_43 (dk_at dksX6_comes_1 0 rfl rfl)
theorem dX6_comes_25 : decode cX6_comes 25 = .ok (.invokeinterface 128 1, 5) := by decide +kernel
theorem dX6_comes_30 : decode cX6_comes 30 = .ok (.checkcast 158, 3) := dk_192 0 158 (dk_at dksX6_comes_1 6 rfl rfl)
theorem dX6_comes_33 : decode cX6_comes 33 = .ok (.iconst 0, 1) := dk_3 (dk_at dksX6_comes_1 9 rfl rfl)
theorem dX6_comes_34 : decode cX6_comes 34 = .ok (.invokevirtual 160, 3) := dk_182 0 160 (dk_at dksX6_comes_1 10 rfl rfl)
theorem dX6_comes_37 : decode cX6_comes 37 = .ok (.goto (-23), 3) := dk_167 255 233 (dk_at dksX6_comes_1 13 rfl rfl)
theorem dX6_comes_40 : decode cX6_comes 40 = .ok (.aload_n 0, 1) := dk_42 (dk_at dksX6_comes_1 16 rfl rfl)
theorem dX6_comes_41 : decode cX6_comes 41 = .ok (.getfield 3, 3) := dk_180 0 3 (dk_at dksX6_comes_1 17 rfl rfl)
theorem dX6_comes_44 : decode cX6_comes 44 = .ok (.getfield 75, 3) := dk_180 0 75 (dk_at dksX6_comes_1 20 rfl rfl)
theorem dX6_comes_47 : decode cX6_comes 47 = .ok (.getfield 163, 3) := dk_180 0 163 (dk_at dksX6_comes_2 0 rfl rfl)
theorem dX6_comes_50 : decode cX6_comes 50 = .ok (.invokevirtual 118, 3) := dk_182 0 118 (dk_at dksX6_comes_2 3 rfl rfl)
theorem dX6_comes_53 : decode cX6_comes 53 = .ok (.astore_n 1, 1) := dk_76 (dk_at dksX6_comes_2 6 rfl rfl)
theorem dX6_comes_54 : decode cX6_comes 54 = .ok (.aload_n 1, 1) := dk_43 (dk_at dksX6_comes_2 7 rfl rfl)
theorem dX6_comes_55 : decode cX6_comes 55 = .ok (.invokeinterface 122 1, 5) := by decide +kernel
theorem dX6_comes_60 : decode cX6_comes 60 = .ok (.ifCond .eq 20, 3) := dk_153 0 20 (dk_at dksX6_comes_2 13 rfl rfl)
theorem dX6_comes_63 : decode cX6_comes 63 = .ok (.aload_n 0, 1) := dk_42 (dk_at dksX6_comes_2 16 rfl rfl)
theorem dX6_comes_64 : decode cX6_comes 64 = .ok (.aload_n 1, 1) := dk_43 (dk_at dksX6_comes_2 17 rfl rfl)
theorem dX6_comes_65 : decode cX6_comes 65 = .ok (.invokeinterface 128 1, 5) := by decide +kernel
theorem dX6_comes_70 : decode cX6_comes 70 = .ok (.checkcast 158, 3) := dk_192 0 158 (dk_at dksX6_comes_3 0 rfl rfl)
theorem dX6_comes_73 : decode cX6_comes 73 = .ok (.iconst 2, 1) := dk_5 (dk_at dksX6_comes_3 3 rfl rfl)
theorem dX6_comes_74 : decode cX6_comes 74 = .ok (.invokevirtual 160, 3) := dk_182 0 160 (dk_at dksX6_comes_3 4 rfl rfl)
theorem dX6_comes_77 : decode cX6_comes 77 = .ok (.goto (-23), 3) := dk_167 255 233 (dk_at dksX6_comes_3 7 rfl rfl)
theorem dX6_comes_80 : decode cX6_comes 80 = .ok (.aload_n 0, 1) := dk_42 (dk_at dksX6_comes_3 10 rfl rfl)
theorem dX6_comes_81 : decode cX6_comes 81 = .ok (.getfield 3, 3) := dk_180 0 3 (dk_at dksX6_comes_3 11 rfl rfl)
theorem dX6_comes_84 : decode cX6_comes 84 = .ok (.getfield 75, 3) := dk_180 0 75 (dk_at dksX6_comes_3 14 rfl rfl)
theorem dX6_comes_87 : decode cX6_comes 87 = .ok (.getfield 166, 3) := dk_180 0 166 (dk_at dksX6_comes_3 17 rfl rfl)
theorem dX6_comes_90 : decode cX6_comes 90 = .ok (.invokevirtual 118, 3) := dk_182 0 118 (dk_at dksX6_comes_3 20 rfl rfl)
theorem dX6_comes_93 : decode cX6_comes 93 = .ok (.astore_n 1, 1) := dk_76 (dk_at dksX6_comes_3 23 rfl rfl)
theorem dX6_comes_94 : decode cX6_comes 94 = .ok (.aload_n 1, 1) := dk_43 (dk_at dksX6_comes_4 0 rfl rfl)
theorem dX6_comes_95 : decode cX6_comes 95 = .ok (.invokeinterface 122 1, 5) := by decide +kernel
theorem dX6_comes_100 : decode cX6_comes 100 = .ok (.ifCond .eq 59, 3) := dk_153 0 59 (dk_at dksX6_comes_4 6 rfl rfl)
theorem dX6_comes_103 : decode cX6_comes 103 = .ok (.aload_n 1, 1) := dk_43 (dk_at dksX6_comes_4 9 rfl rfl)
theorem dX6_comes_104 : decode cX6_comes 104 = .ok (.invokeinterface 128 1, 5) := by decide +kernel
theorem dX6_comes_109 : decode cX6_comes 109 = .ok (.checkcast 167, 3) := dk_192 0 167 (dk_at dksX6_comes_4 15 rfl rfl)
theorem dX6_comes_112 : decode cX6_comes 112 = .ok (.astore_n 2, 1) := dk_77 (dk_at dksX6_comes_4 18 rfl rfl)
theorem dX6_comes_113 : decode cX6_comes 113 = .ok (.aload_n 2, 1) := dk_44 (dk_at dksX6_comes_4 19 rfl rfl)
theorem dX6_comes_114 : decode cX6_comes 114 = .ok (.getfield 169, 3) := dk_180 0 169 (dk_at dksX6_comes_4 20 rfl rfl)
theorem dX6_comes_117 : decode cX6_comes 117 = .ok (.aload_n 0, 1) := dk_42 (dk_at dksX6_comes_4 23 rfl rfl)
theorem dX6_comes_118 : decode cX6_comes 118 = .ok (.getfield 105, 3) := dk_180 0 105 (dk_at dksX6_comes_5 0 rfl rfl)
theorem dX6_comes_121 : decode cX6_comes 121 = .ok (.if_icmp .ne 35, 3) := dk_160 0 35 (dk_at dksX6_comes_5 3 rfl rfl)
theorem dX6_comes_124 : decode cX6_comes 124 = .ok (.aload_n 0, 1) := dk_42 (dk_at dksX6_comes_5 6 rfl rfl)
theorem dX6_comes_125 : decode cX6_comes 125 = .ok (.getfield 47, 3) := dk_180 0 47 (dk_at dksX6_comes_5 7 rfl rfl)
theorem dX6_comes_128 : decode cX6_comes 128 = .ok (.invokevirtual 172, 3) := dk_182 0 172 (dk_at dksX6_comes_5 10 rfl rfl)
theorem dX6_comes_131 : decode cX6_comes 131 = .ok (.bipush 8, 2) := dk_16 8 (dk_at dksX6_comes_5 13 rfl rfl)
theorem dX6_comes_133 : decode cX6_comes 133 = .ok (.if_icmp .ge 23, 3) := dk_162 0 23 (dk_at dksX6_comes_5 15 rfl rfl)
theorem dX6_comes_136 : decode cX6_comes 136 = .ok (.aload_n 0, 1) := dk_42 (dk_at dksX6_comes_5 18 rfl rfl)
theorem dX6_comes_137 : decode cX6_comes 137 = .ok (.aload_n 2, 1) := dk_44 (dk_at dksX6_comes_5 19 rfl rfl)
theorem dX6_comes_138 : decode cX6_comes 138 = .ok (.getfield 175, 3) := dk_180 0 175 (dk_at dksX6_comes_5 20 rfl rfl)
theorem dX6_comes_141 : decode cX6_comes 141 = .ok (.aload_n 2, 1) := dk_44 (dk_at dksX6_comes_5 23 rfl rfl)
theorem dX6_comes_142 : decode cX6_comes 142 = .ok (.getfield 177, 3) := dk_180 0 177 (dk_at dksX6_comes_6 0 rfl rfl)
theorem dX6_comes_145 : decode cX6_comes 145 = .ok (.aload_n 2, 1) := dk_44 (dk_at dksX6_comes_6 3 rfl rfl)
theorem dX6_comes_146 : decode cX6_comes 146 = .ok (.getfield 180, 3) := dk_180 0 180 (dk_at dksX6_comes_6 4 rfl rfl)
theorem dX6_comes_149 : decode cX6_comes 149 = .ok (.aload_n 2, 1) := dk_44 (dk_at dksX6_comes_6 7 rfl rfl)
theorem dX6_comes_150 : decode cX6_comes 150 = .ok (.getfield 183, 3) := dk_180 0 183 (dk_at dksX6_comes_6 8 rfl rfl)
theorem dX6_comes_153 : decode cX6_comes 153 = .ok (.invokevirtual 186, 3) := dk_182 0 186 (dk_at dksX6_comes_6 11 rfl rfl)
theorem dX6_comes_156 : decode cX6_comes 156 = .ok (.goto (-62), 3) := dk_167 255 194 (dk_at dksX6_comes_6 14 rfl rfl)
theorem dX6_comes_159 : decode cX6_comes 159 = .ok (.return_, 1) := dk_177 (dk_at dksX6_comes_6 17 rfl rfl)
abbrev cX6_comes_2 : ByteArray := prog_3_method_6_code
def yX6_comes_2 : MethodName := ⟨RX6, "comes", "(LExemptDesk$Told;I)V"⟩
def dkwX6_comes_2_1 : List UInt8 := [50, 180, 0, 189, 28, 43, 180, 0, 198, 96, 92, 47, 43, 180, 0, 199, 133, 97, 80, 177]
abbrev dktX6_comes_2_1 : List UInt8 := dkwX6_comes_2_1 ++ []
def dkwX6_comes_2_0 : List UInt8 := [43, 180, 0, 196, 42, 180, 0, 105, 160, 0, 35, 42, 180, 0, 17, 43, 180, 0, 197, 50, 42, 180, 0, 105]
abbrev dktX6_comes_2_0 : List UInt8 := dkwX6_comes_2_0 ++ dktX6_comes_2_1
theorem dksX6_comes_2_0 : cX6_comes_2.data.toList.drop 0 = dktX6_comes_2_0 := by decide +kernel
theorem dksX6_comes_2_1 : cX6_comes_2.data.toList.drop 24 = dktX6_comes_2_1 := dk_seg dksX6_comes_2_0 24 rfl rfl
theorem dX6_comes_2_0 : decode cX6_comes_2 0 = .ok (.aload_n 1, 1) := dk_43 (dk_at dksX6_comes_2_0 0 rfl rfl)
theorem dX6_comes_2_1 : decode cX6_comes_2 1 = .ok (.getfield 196, 3) := dk_180 0 196 (dk_at dksX6_comes_2_0 1 rfl rfl)
theorem dX6_comes_2_4 : decode cX6_comes_2 4 = .ok (.aload_n 0, 1) := dk_42 (dk_at dksX6_comes_2_0 4 rfl rfl)
theorem dX6_comes_2_5 : decode cX6_comes_2 5 = .ok (.getfield 105, 3) := dk_180 0 105 (dk_at dksX6_comes_2_0 5 rfl rfl)
theorem dX6_comes_2_8 : decode cX6_comes_2 8 = .ok (.if_icmp .ne 35, 3) := dk_160 0 35 (dk_at dksX6_comes_2_0 8 rfl rfl)
theorem dX6_comes_2_11 : decode cX6_comes_2 11 = .ok (.aload_n 0, 1) := dk_42 (dk_at dksX6_comes_2_0 11 rfl rfl)
theorem dX6_comes_2_12 : decode cX6_comes_2 12 = .ok (.getfield 17, 3) := dk_180 0 17 (dk_at dksX6_comes_2_0 12 rfl rfl)
theorem dX6_comes_2_15 : decode cX6_comes_2 15 = .ok (.aload_n 1, 1) := dk_43 (dk_at dksX6_comes_2_0 15 rfl rfl)
theorem dX6_comes_2_16 : decode cX6_comes_2 16 = .ok (.getfield 197, 3) := dk_180 0 197 (dk_at dksX6_comes_2_0 16 rfl rfl)
theorem dX6_comes_2_19 : decode cX6_comes_2 19 = .ok (.aaload, 1) := dk_50 (dk_at dksX6_comes_2_0 19 rfl rfl)
theorem dX6_comes_2_20 : decode cX6_comes_2 20 = .ok (.aload_n 0, 1) := dk_42 (dk_at dksX6_comes_2_0 20 rfl rfl)
theorem dX6_comes_2_21 : decode cX6_comes_2 21 = .ok (.getfield 105, 3) := dk_180 0 105 (dk_at dksX6_comes_2_0 21 rfl rfl)
theorem dX6_comes_2_24 : decode cX6_comes_2 24 = .ok (.aaload, 1) := dk_50 (dk_at dksX6_comes_2_1 0 rfl rfl)
theorem dX6_comes_2_25 : decode cX6_comes_2 25 = .ok (.getfield 189, 3) := dk_180 0 189 (dk_at dksX6_comes_2_1 1 rfl rfl)
theorem dX6_comes_2_28 : decode cX6_comes_2 28 = .ok (.iload_n 2, 1) := dk_28 (dk_at dksX6_comes_2_1 4 rfl rfl)
theorem dX6_comes_2_29 : decode cX6_comes_2 29 = .ok (.aload_n 1, 1) := dk_43 (dk_at dksX6_comes_2_1 5 rfl rfl)
theorem dX6_comes_2_30 : decode cX6_comes_2 30 = .ok (.getfield 198, 3) := dk_180 0 198 (dk_at dksX6_comes_2_1 6 rfl rfl)
theorem dX6_comes_2_33 : decode cX6_comes_2 33 = .ok (.iadd, 1) := dk_96 (dk_at dksX6_comes_2_1 9 rfl rfl)
theorem dX6_comes_2_34 : decode cX6_comes_2 34 = .ok (.dup2, 1) := dk_92 (dk_at dksX6_comes_2_1 10 rfl rfl)
theorem dX6_comes_2_35 : decode cX6_comes_2 35 = .ok (.laload, 1) := dk_47 (dk_at dksX6_comes_2_1 11 rfl rfl)
theorem dX6_comes_2_36 : decode cX6_comes_2 36 = .ok (.aload_n 1, 1) := dk_43 (dk_at dksX6_comes_2_1 12 rfl rfl)
theorem dX6_comes_2_37 : decode cX6_comes_2 37 = .ok (.getfield 199, 3) := dk_180 0 199 (dk_at dksX6_comes_2_1 13 rfl rfl)
theorem dX6_comes_2_40 : decode cX6_comes_2 40 = .ok (.i2l, 1) := dk_133 (dk_at dksX6_comes_2_1 16 rfl rfl)
theorem dX6_comes_2_41 : decode cX6_comes_2 41 = .ok (.ladd, 1) := dk_97 (dk_at dksX6_comes_2_1 17 rfl rfl)
theorem dX6_comes_2_42 : decode cX6_comes_2 42 = .ok (.lastore, 1) := dk_80 (dk_at dksX6_comes_2_1 18 rfl rfl)
theorem dX6_comes_2_43 : decode cX6_comes_2 43 = .ok (.return_, 1) := dk_177 (dk_at dksX6_comes_2_1 19 rfl rfl)
abbrev cX6_buys : ByteArray := prog_3_method_5_code
def yX6_buys : MethodName := ⟨RX6, "buys", "(IIII)V"⟩
def dkwX6_buys_2 : List UInt8 := [182, 0, 138, 177]
abbrev dktX6_buys_2 : List UInt8 := dkwX6_buys_2 ++ []
def dkwX6_buys_1 : List UInt8 := [187, 0, 132, 89, 42, 180, 0, 47, 182, 0, 172, 27, 28, 29, 21, 4, 42, 180, 0, 105, 183, 0, 193]
abbrev dktX6_buys_1 : List UInt8 := dkwX6_buys_1 ++ dktX6_buys_2
def dkwX6_buys_0 : List UInt8 := [42, 180, 0, 17, 27, 50, 42, 180, 0, 105, 50, 180, 0, 189, 5, 28, 96, 92, 47, 29, 133, 97, 80, 42]
abbrev dktX6_buys_0 : List UInt8 := dkwX6_buys_0 ++ dktX6_buys_1
theorem dksX6_buys_0 : cX6_buys.data.toList.drop 0 = dktX6_buys_0 := by decide +kernel
theorem dksX6_buys_1 : cX6_buys.data.toList.drop 24 = dktX6_buys_1 := dk_seg dksX6_buys_0 24 rfl rfl
theorem dksX6_buys_2 : cX6_buys.data.toList.drop 47 = dktX6_buys_2 := dk_seg dksX6_buys_1 23 rfl rfl
theorem dX6_buys_0 : decode cX6_buys 0 = .ok (.aload_n 0, 1) := dk_42 (dk_at dksX6_buys_0 0 rfl rfl)
theorem dX6_buys_1 : decode cX6_buys 1 = .ok (.getfield 17, 3) := dk_180 0 17 (dk_at dksX6_buys_0 1 rfl rfl)
theorem dX6_buys_4 : decode cX6_buys 4 = .ok (.iload_n 1, 1) := dk_27 (dk_at dksX6_buys_0 4 rfl rfl)
theorem dX6_buys_5 : decode cX6_buys 5 = .ok (.aaload, 1) := dk_50 (dk_at dksX6_buys_0 5 rfl rfl)
theorem dX6_buys_6 : decode cX6_buys 6 = .ok (.aload_n 0, 1) := dk_42 (dk_at dksX6_buys_0 6 rfl rfl)
theorem dX6_buys_7 : decode cX6_buys 7 = .ok (.getfield 105, 3) := dk_180 0 105 (dk_at dksX6_buys_0 7 rfl rfl)
theorem dX6_buys_10 : decode cX6_buys 10 = .ok (.aaload, 1) := dk_50 (dk_at dksX6_buys_0 10 rfl rfl)
theorem dX6_buys_11 : decode cX6_buys 11 = .ok (.getfield 189, 3) := dk_180 0 189 (dk_at dksX6_buys_0 11 rfl rfl)
theorem dX6_buys_14 : decode cX6_buys 14 = .ok (.iconst 2, 1) := dk_5 (dk_at dksX6_buys_0 14 rfl rfl)
theorem dX6_buys_15 : decode cX6_buys 15 = .ok (.iload_n 2, 1) := dk_28 (dk_at dksX6_buys_0 15 rfl rfl)
theorem dX6_buys_16 : decode cX6_buys 16 = .ok (.iadd, 1) := dk_96 (dk_at dksX6_buys_0 16 rfl rfl)
theorem dX6_buys_17 : decode cX6_buys 17 = .ok (.dup2, 1) := dk_92 (dk_at dksX6_buys_0 17 rfl rfl)
theorem dX6_buys_18 : decode cX6_buys 18 = .ok (.laload, 1) := dk_47 (dk_at dksX6_buys_0 18 rfl rfl)
theorem dX6_buys_19 : decode cX6_buys 19 = .ok (.iload_n 3, 1) := dk_29 (dk_at dksX6_buys_0 19 rfl rfl)
theorem dX6_buys_20 : decode cX6_buys 20 = .ok (.i2l, 1) := dk_133 (dk_at dksX6_buys_0 20 rfl rfl)
theorem dX6_buys_21 : decode cX6_buys 21 = .ok (.ladd, 1) := dk_97 (dk_at dksX6_buys_0 21 rfl rfl)
theorem dX6_buys_22 : decode cX6_buys 22 = .ok (.lastore, 1) := dk_80 (dk_at dksX6_buys_0 22 rfl rfl)
theorem dX6_buys_23 : decode cX6_buys 23 = .ok (.aload_n 0, 1) := dk_42 (dk_at dksX6_buys_0 23 rfl rfl)
theorem dX6_buys_24 : decode cX6_buys 24 = .ok (.new 132, 3) := dk_187 0 132 (dk_at dksX6_buys_1 0 rfl rfl)
theorem dX6_buys_27 : decode cX6_buys 27 = .ok (.dup, 1) := dk_89 (dk_at dksX6_buys_1 3 rfl rfl)
theorem dX6_buys_28 : decode cX6_buys 28 = .ok (.aload_n 0, 1) := dk_42 (dk_at dksX6_buys_1 4 rfl rfl)
theorem dX6_buys_29 : decode cX6_buys 29 = .ok (.getfield 47, 3) := dk_180 0 47 (dk_at dksX6_buys_1 5 rfl rfl)
theorem dX6_buys_32 : decode cX6_buys 32 = .ok (.invokevirtual 172, 3) := dk_182 0 172 (dk_at dksX6_buys_1 8 rfl rfl)
theorem dX6_buys_35 : decode cX6_buys 35 = .ok (.iload_n 1, 1) := dk_27 (dk_at dksX6_buys_1 11 rfl rfl)
theorem dX6_buys_36 : decode cX6_buys 36 = .ok (.iload_n 2, 1) := dk_28 (dk_at dksX6_buys_1 12 rfl rfl)
theorem dX6_buys_37 : decode cX6_buys 37 = .ok (.iload_n 3, 1) := dk_29 (dk_at dksX6_buys_1 13 rfl rfl)
theorem dX6_buys_38 : decode cX6_buys 38 = .ok (.iload 4, 2) := dk_21 4 (dk_at dksX6_buys_1 14 rfl rfl)
theorem dX6_buys_40 : decode cX6_buys 40 = .ok (.aload_n 0, 1) := dk_42 (dk_at dksX6_buys_1 16 rfl rfl)
theorem dX6_buys_41 : decode cX6_buys 41 = .ok (.getfield 105, 3) := dk_180 0 105 (dk_at dksX6_buys_1 17 rfl rfl)
theorem dX6_buys_44 : decode cX6_buys 44 = .ok (.invokespecial 193, 3) := dk_183 0 193 (dk_at dksX6_buys_1 20 rfl rfl)
theorem dX6_buys_47 : decode cX6_buys 47 = .ok (.invokevirtual 138, 3) := dk_182 0 138 (dk_at dksX6_buys_2 0 rfl rfl)
theorem dX6_buys_50 : decode cX6_buys 50 = .ok (.return_, 1) := dk_177 (dk_at dksX6_buys_2 3 rfl rfl)
abbrev cX6_add : ByteArray := prog_3_method_7_code
def yX6_add : MethodName := ⟨RX6, "add", "(LExemptDesk$Asset;)V"⟩
def dkwX6_add_1 : List UInt8 := [87, 177]
abbrev dktX6_add_1 : List UInt8 := dkwX6_add_1 ++ []
def dkwX6_add_0 : List UInt8 := [42, 180, 0, 47, 43, 182, 0, 200, 87, 43, 180, 0, 203, 154, 0, 12, 42, 180, 0, 51, 43, 182, 0, 200]
abbrev dktX6_add_0 : List UInt8 := dkwX6_add_0 ++ dktX6_add_1
theorem dksX6_add_0 : cX6_add.data.toList.drop 0 = dktX6_add_0 := by decide +kernel
theorem dksX6_add_1 : cX6_add.data.toList.drop 24 = dktX6_add_1 := dk_seg dksX6_add_0 24 rfl rfl
theorem dX6_add_0 : decode cX6_add 0 = .ok (.aload_n 0, 1) := dk_42 (dk_at dksX6_add_0 0 rfl rfl)
theorem dX6_add_1 : decode cX6_add 1 = .ok (.getfield 47, 3) := dk_180 0 47 (dk_at dksX6_add_0 1 rfl rfl)
theorem dX6_add_4 : decode cX6_add 4 = .ok (.aload_n 1, 1) := dk_43 (dk_at dksX6_add_0 4 rfl rfl)
theorem dX6_add_5 : decode cX6_add 5 = .ok (.invokevirtual 200, 3) := dk_182 0 200 (dk_at dksX6_add_0 5 rfl rfl)
theorem dX6_add_8 : decode cX6_add 8 = .ok (.pop, 1) := dk_87 (dk_at dksX6_add_0 8 rfl rfl)
theorem dX6_add_9 : decode cX6_add 9 = .ok (.aload_n 1, 1) := dk_43 (dk_at dksX6_add_0 9 rfl rfl)
theorem dX6_add_10 : decode cX6_add 10 = .ok (.getfield 203, 3) := dk_180 0 203 (dk_at dksX6_add_0 10 rfl rfl)
theorem dX6_add_13 : decode cX6_add 13 = .ok (.ifCond .ne 12, 3) := dk_154 0 12 (dk_at dksX6_add_0 13 rfl rfl)
theorem dX6_add_16 : decode cX6_add 16 = .ok (.aload_n 0, 1) := dk_42 (dk_at dksX6_add_0 16 rfl rfl)
theorem dX6_add_17 : decode cX6_add 17 = .ok (.getfield 51, 3) := dk_180 0 51 (dk_at dksX6_add_0 17 rfl rfl)
theorem dX6_add_20 : decode cX6_add 20 = .ok (.aload_n 1, 1) := dk_43 (dk_at dksX6_add_0 20 rfl rfl)
theorem dX6_add_21 : decode cX6_add 21 = .ok (.invokevirtual 200, 3) := dk_182 0 200 (dk_at dksX6_add_0 21 rfl rfl)
theorem dX6_add_24 : decode cX6_add 24 = .ok (.pop, 1) := dk_87 (dk_at dksX6_add_1 0 rfl rfl)
theorem dX6_add_25 : decode cX6_add 25 = .ok (.return_, 1) := dk_177 (dk_at dksX6_add_1 1 rfl rfl)
abbrev cX6_asset : ByteArray := prog_3_method_8_code
def yX6_asset : MethodName := ⟨RX6, "asset", "(I)LExemptDesk$Asset;"⟩
def dkwX6_asset_0 : List UInt8 := [42, 180, 0, 47, 27, 182, 0, 207, 192, 0, 132, 176]
abbrev dktX6_asset_0 : List UInt8 := dkwX6_asset_0 ++ []
theorem dksX6_asset_0 : cX6_asset.data.toList.drop 0 = dktX6_asset_0 := by decide +kernel
theorem dX6_asset_0 : decode cX6_asset 0 = .ok (.aload_n 0, 1) := dk_42 (dk_at dksX6_asset_0 0 rfl rfl)
theorem dX6_asset_1 : decode cX6_asset 1 = .ok (.getfield 47, 3) := dk_180 0 47 (dk_at dksX6_asset_0 1 rfl rfl)
theorem dX6_asset_4 : decode cX6_asset 4 = .ok (.iload_n 1, 1) := dk_27 (dk_at dksX6_asset_0 4 rfl rfl)
theorem dX6_asset_5 : decode cX6_asset 5 = .ok (.invokevirtual 207, 3) := dk_182 0 207 (dk_at dksX6_asset_0 5 rfl rfl)
theorem dX6_asset_8 : decode cX6_asset 8 = .ok (.checkcast 132, 3) := dk_192 0 132 (dk_at dksX6_asset_0 8 rfl rfl)
theorem dX6_asset_11 : decode cX6_asset 11 = .ok (.areturn, 1) := dk_176 (dk_at dksX6_asset_0 11 rfl rfl)
abbrev cX6_firstOf : ByteArray := prog_3_method_26_code
def yX6_firstOf : MethodName := ⟨RX6, "firstOf", "(LExemptDesk$Asset;)I"⟩
def dkwX6_firstOf_1 : List UInt8 := [180, 0, 234, 133, 182, 1, 112, 172]
abbrev dktX6_firstOf_1 : List UInt8 := dkwX6_firstOf_1 ++ []
def dkwX6_firstOf_0 : List UInt8 := [42, 182, 0, 237, 43, 180, 1, 120, 133, 43, 180, 1, 76, 133, 105, 42, 180, 0, 3, 180, 0, 75]
abbrev dktX6_firstOf_0 : List UInt8 := dkwX6_firstOf_0 ++ dktX6_firstOf_1
theorem dksX6_firstOf_0 : cX6_firstOf.data.toList.drop 0 = dktX6_firstOf_0 := by decide +kernel
theorem dksX6_firstOf_1 : cX6_firstOf.data.toList.drop 22 = dktX6_firstOf_1 := dk_seg dksX6_firstOf_0 22 rfl rfl
theorem dX6_firstOf_0 : decode cX6_firstOf 0 = .ok (.aload_n 0, 1) := dk_42 (dk_at dksX6_firstOf_0 0 rfl rfl)
theorem dX6_firstOf_1 : decode cX6_firstOf 1 = .ok (.invokevirtual 237, 3) := dk_182 0 237 (dk_at dksX6_firstOf_0 1 rfl rfl)
theorem dX6_firstOf_4 : decode cX6_firstOf 4 = .ok (.aload_n 1, 1) := dk_43 (dk_at dksX6_firstOf_0 4 rfl rfl)
theorem dX6_firstOf_5 : decode cX6_firstOf 5 = .ok (.getfield 376, 3) := dk_180 1 120 (dk_at dksX6_firstOf_0 5 rfl rfl)
theorem dX6_firstOf_8 : decode cX6_firstOf 8 = .ok (.i2l, 1) := dk_133 (dk_at dksX6_firstOf_0 8 rfl rfl)
theorem dX6_firstOf_9 : decode cX6_firstOf 9 = .ok (.aload_n 1, 1) := dk_43 (dk_at dksX6_firstOf_0 9 rfl rfl)
theorem dX6_firstOf_10 : decode cX6_firstOf 10 = .ok (.getfield 332, 3) := dk_180 1 76 (dk_at dksX6_firstOf_0 10 rfl rfl)
theorem dX6_firstOf_13 : decode cX6_firstOf 13 = .ok (.i2l, 1) := dk_133 (dk_at dksX6_firstOf_0 13 rfl rfl)
theorem dX6_firstOf_14 : decode cX6_firstOf 14 = .ok (.lmul, 1) := dk_105 (dk_at dksX6_firstOf_0 14 rfl rfl)
theorem dX6_firstOf_15 : decode cX6_firstOf 15 = .ok (.aload_n 0, 1) := dk_42 (dk_at dksX6_firstOf_0 15 rfl rfl)
theorem dX6_firstOf_16 : decode cX6_firstOf 16 = .ok (.getfield 3, 3) := dk_180 0 3 (dk_at dksX6_firstOf_0 16 rfl rfl)
theorem dX6_firstOf_19 : decode cX6_firstOf 19 = .ok (.getfield 75, 3) := dk_180 0 75 (dk_at dksX6_firstOf_0 19 rfl rfl)
theorem dX6_firstOf_22 : decode cX6_firstOf 22 = .ok (.getfield 234, 3) := dk_180 0 234 (dk_at dksX6_firstOf_1 0 rfl rfl)
theorem dX6_firstOf_25 : decode cX6_firstOf 25 = .ok (.i2l, 1) := dk_133 (dk_at dksX6_firstOf_1 3 rfl rfl)
theorem dX6_firstOf_26 : decode cX6_firstOf 26 = .ok (.invokevirtual 368, 3) := dk_182 1 112 (dk_at dksX6_firstOf_1 4 rfl rfl)
theorem dX6_firstOf_29 : decode cX6_firstOf 29 = .ok (.ireturn, 1) := dk_172 (dk_at dksX6_firstOf_1 7 rfl rfl)
abbrev cX6_way : ByteArray := prog_3_method_9_code
def yX6_way : MethodName := ⟨RX6, "way", "()LExemptDesk$Way;"⟩
def dkwX6_way_1 : List UInt8 := [192, 0, 221, 176]
abbrev dktX6_way_1 : List UInt8 := dkwX6_way_1 ++ []
def dkwX6_way_0 : List UInt8 := [42, 180, 0, 3, 180, 0, 211, 42, 180, 0, 3, 180, 0, 75, 180, 0, 215, 185, 0, 218, 2, 0]
abbrev dktX6_way_0 : List UInt8 := dkwX6_way_0 ++ dktX6_way_1
theorem dksX6_way_0 : cX6_way.data.toList.drop 0 = dktX6_way_0 := by decide +kernel
theorem dksX6_way_1 : cX6_way.data.toList.drop 22 = dktX6_way_1 := dk_seg dksX6_way_0 22 rfl rfl
theorem dX6_way_0 : decode cX6_way 0 = .ok (.aload_n 0, 1) := dk_42 (dk_at dksX6_way_0 0 rfl rfl)
theorem dX6_way_1 : decode cX6_way 1 = .ok (.getfield 3, 3) := dk_180 0 3 (dk_at dksX6_way_0 1 rfl rfl)
theorem dX6_way_4 : decode cX6_way 4 = .ok (.getfield 211, 3) := dk_180 0 211 (dk_at dksX6_way_0 4 rfl rfl)
theorem dX6_way_7 : decode cX6_way 7 = .ok (.aload_n 0, 1) := dk_42 (dk_at dksX6_way_0 7 rfl rfl)
theorem dX6_way_8 : decode cX6_way 8 = .ok (.getfield 3, 3) := dk_180 0 3 (dk_at dksX6_way_0 8 rfl rfl)
theorem dX6_way_11 : decode cX6_way 11 = .ok (.getfield 75, 3) := dk_180 0 75 (dk_at dksX6_way_0 11 rfl rfl)
theorem dX6_way_14 : decode cX6_way 14 = .ok (.getfield 215, 3) := dk_180 0 215 (dk_at dksX6_way_0 14 rfl rfl)
theorem dX6_way_17 : decode cX6_way 17 = .ok (.invokeinterface 218 2, 5) := by decide +kernel
theorem dX6_way_22 : decode cX6_way 22 = .ok (.checkcast 221, 3) := dk_192 0 221 (dk_at dksX6_way_1 0 rfl rfl)
theorem dX6_way_25 : decode cX6_way 25 = .ok (.areturn, 1) := dk_176 (dk_at dksX6_way_1 3 rfl rfl)
abbrev cX6_be : ByteArray := prog_3_method_3_code
def yX6_be : MethodName := ⟨RX6, "be", "(LExemptDesk$Books;)LExemptDesk$Books;"⟩
def dkwX6_be_13 : List UInt8 := [42, 176]
abbrev dktX6_be_13 : List UInt8 := dkwX6_be_13 ++ []
def dkwX6_be_12 : List UInt8 := [182, 0, 146, 167, 255, 229, 42, 180, 0, 64, 182, 0, 150, 42, 180, 0, 64, 43, 180, 0, 64, 182, 0, 151]
abbrev dktX6_be_12 : List UInt8 := dkwX6_be_12 ++ dktX6_be_13
def dkwX6_be_11 : List UInt8 := [44, 185, 0, 122, 1, 0, 153, 0, 24, 44, 185, 0, 128, 1, 0, 192, 0, 144, 78, 42, 180, 0, 57, 45]
abbrev dktX6_be_11 : List UInt8 := dkwX6_be_11 ++ dktX6_be_12
def dkwX6_be_10 : List UInt8 := [182, 0, 134, 182, 0, 138, 167, 255, 231, 42, 180, 0, 57, 182, 0, 142, 43, 180, 0, 57, 182, 0, 143, 77]
abbrev dktX6_be_10 : List UInt8 := dkwX6_be_10 ++ dktX6_be_11
def dkwX6_be_9 : List UInt8 := [182, 0, 118, 77, 44, 185, 0, 122, 1, 0, 153, 0, 22, 42, 44, 185, 0, 128, 1, 0, 192, 0, 132]
abbrev dktX6_be_9 : List UInt8 := dkwX6_be_9 ++ dktX6_be_10
def dkwX6_be_8 : List UInt8 := [132, 2, 1, 167, 255, 84, 42, 180, 0, 47, 182, 0, 115, 42, 180, 0, 51, 182, 0, 115, 43, 180, 0, 47]
abbrev dktX6_be_8 : List UInt8 := dkwX6_be_8 ++ dktX6_be_9
def dkwX6_be_7 : List UInt8 := [42, 180, 0, 41, 28, 50, 29, 43, 180, 0, 41, 28, 50, 29, 46, 79, 132, 3, 1, 167, 255, 232]
abbrev dktX6_be_7 : List UInt8 := dkwX6_be_7 ++ dktX6_be_8
def dkwX6_be_6 : List UInt8 := [50, 29, 43, 180, 0, 31, 28, 50, 29, 46, 79, 132, 3, 1, 167, 255, 215, 3, 62, 29, 7, 162, 0, 25]
abbrev dktX6_be_6 : List UInt8 := dkwX6_be_6 ++ dktX6_be_7
def dkwX6_be_5 : List UInt8 := [162, 0, 41, 42, 180, 0, 28, 28, 50, 29, 43, 180, 0, 28, 28, 50, 29, 46, 79, 42, 180, 0, 31, 28]
abbrev dktX6_be_5 : List UInt8 := dkwX6_be_5 ++ dktX6_be_6
def dkwX6_be_4 : List UInt8 := [50, 29, 43, 180, 0, 25, 28, 50, 29, 46, 79, 132, 3, 1, 167, 255, 196, 3, 62, 29, 16, 16]
abbrev dktX6_be_4 : List UInt8 := dkwX6_be_4 ++ dktX6_be_5
def dkwX6_be_3 : List UInt8 := [182, 0, 111, 42, 180, 0, 22, 28, 50, 29, 43, 180, 0, 22, 28, 50, 29, 46, 79, 42, 180, 0, 25, 28]
abbrev dktX6_be_3 : List UInt8 := dkwX6_be_3 ++ dktX6_be_4
def dkwX6_be_2 : List UInt8 := [62, 29, 16, 64, 162, 0, 60, 42, 180, 0, 17, 28, 50, 29, 50, 43, 180, 0, 17, 28, 50, 29, 50]
abbrev dktX6_be_2 : List UInt8 := dkwX6_be_2 ++ dktX6_be_3
def dkwX6_be_1 : List UInt8 := [180, 0, 34, 28, 43, 180, 0, 34, 28, 46, 79, 42, 180, 0, 38, 28, 43, 180, 0, 38, 28, 46, 79, 3]
abbrev dktX6_be_1 : List UInt8 := dkwX6_be_1 ++ dktX6_be_2
def dkwX6_be_0 : List UInt8 := [42, 43, 180, 0, 105, 181, 0, 105, 42, 43, 180, 0, 108, 181, 0, 108, 3, 61, 28, 7, 162, 0, 173, 42]
abbrev dktX6_be_0 : List UInt8 := dkwX6_be_0 ++ dktX6_be_1
theorem dksX6_be_0 : cX6_be.data.toList.drop 0 = dktX6_be_0 := by decide +kernel
theorem dksX6_be_1 : cX6_be.data.toList.drop 24 = dktX6_be_1 := dk_seg dksX6_be_0 24 rfl rfl
theorem dksX6_be_2 : cX6_be.data.toList.drop 48 = dktX6_be_2 := dk_seg dksX6_be_1 24 rfl rfl
theorem dksX6_be_3 : cX6_be.data.toList.drop 71 = dktX6_be_3 := dk_seg dksX6_be_2 23 rfl rfl
theorem dksX6_be_4 : cX6_be.data.toList.drop 95 = dktX6_be_4 := dk_seg dksX6_be_3 24 rfl rfl
theorem dksX6_be_5 : cX6_be.data.toList.drop 117 = dktX6_be_5 := dk_seg dksX6_be_4 22 rfl rfl
theorem dksX6_be_6 : cX6_be.data.toList.drop 141 = dktX6_be_6 := dk_seg dksX6_be_5 24 rfl rfl
theorem dksX6_be_7 : cX6_be.data.toList.drop 165 = dktX6_be_7 := dk_seg dksX6_be_6 24 rfl rfl
theorem dksX6_be_8 : cX6_be.data.toList.drop 187 = dktX6_be_8 := dk_seg dksX6_be_7 22 rfl rfl
theorem dksX6_be_9 : cX6_be.data.toList.drop 211 = dktX6_be_9 := dk_seg dksX6_be_8 24 rfl rfl
theorem dksX6_be_10 : cX6_be.data.toList.drop 234 = dktX6_be_10 := dk_seg dksX6_be_9 23 rfl rfl
theorem dksX6_be_11 : cX6_be.data.toList.drop 258 = dktX6_be_11 := dk_seg dksX6_be_10 24 rfl rfl
theorem dksX6_be_12 : cX6_be.data.toList.drop 282 = dktX6_be_12 := dk_seg dksX6_be_11 24 rfl rfl
theorem dksX6_be_13 : cX6_be.data.toList.drop 306 = dktX6_be_13 := dk_seg dksX6_be_12 24 rfl rfl
theorem dX6_be_0 : decode cX6_be 0 = .ok (.aload_n 0, 1) := dk_42 (dk_at dksX6_be_0 0 rfl rfl)
theorem dX6_be_1 : decode cX6_be 1 = .ok (.aload_n 1, 1) := dk_43 (dk_at dksX6_be_0 1 rfl rfl)
theorem dX6_be_2 : decode cX6_be 2 = .ok (.getfield 105, 3) := dk_180 0 105 (dk_at dksX6_be_0 2 rfl rfl)
theorem dX6_be_5 : decode cX6_be 5 = .ok (.putfield 105, 3) := dk_181 0 105 (dk_at dksX6_be_0 5 rfl rfl)
theorem dX6_be_8 : decode cX6_be 8 = .ok (.aload_n 0, 1) := dk_42 (dk_at dksX6_be_0 8 rfl rfl)
theorem dX6_be_9 : decode cX6_be 9 = .ok (.aload_n 1, 1) := dk_43 (dk_at dksX6_be_0 9 rfl rfl)
theorem dX6_be_10 : decode cX6_be 10 = .ok (.getfield 108, 3) := dk_180 0 108 (dk_at dksX6_be_0 10 rfl rfl)
theorem dX6_be_13 : decode cX6_be 13 = .ok (.putfield 108, 3) := dk_181 0 108 (dk_at dksX6_be_0 13 rfl rfl)
theorem dX6_be_16 : decode cX6_be 16 = .ok (.iconst 0, 1) := dk_3 (dk_at dksX6_be_0 16 rfl rfl)
theorem dX6_be_17 : decode cX6_be 17 = .ok (.istore_n 2, 1) := dk_61 (dk_at dksX6_be_0 17 rfl rfl)
theorem dX6_be_18 : decode cX6_be 18 = .ok (.iload_n 2, 1) := dk_28 (dk_at dksX6_be_0 18 rfl rfl)
theorem dX6_be_19 : decode cX6_be 19 = .ok (.iconst 4, 1) := dk_7 (dk_at dksX6_be_0 19 rfl rfl)
theorem dX6_be_20 : decode cX6_be 20 = .ok (.if_icmp .ge 173, 3) := dk_162 0 173 (dk_at dksX6_be_0 20 rfl rfl)
theorem dX6_be_23 : decode cX6_be 23 = .ok (.aload_n 0, 1) := dk_42 (dk_at dksX6_be_0 23 rfl rfl)
theorem dX6_be_24 : decode cX6_be 24 = .ok (.getfield 34, 3) := dk_180 0 34 (dk_at dksX6_be_1 0 rfl rfl)
theorem dX6_be_27 : decode cX6_be 27 = .ok (.iload_n 2, 1) := dk_28 (dk_at dksX6_be_1 3 rfl rfl)
theorem dX6_be_28 : decode cX6_be 28 = .ok (.aload_n 1, 1) := dk_43 (dk_at dksX6_be_1 4 rfl rfl)
theorem dX6_be_29 : decode cX6_be 29 = .ok (.getfield 34, 3) := dk_180 0 34 (dk_at dksX6_be_1 5 rfl rfl)
theorem dX6_be_32 : decode cX6_be 32 = .ok (.iload_n 2, 1) := dk_28 (dk_at dksX6_be_1 8 rfl rfl)
theorem dX6_be_33 : decode cX6_be 33 = .ok (.iaload, 1) := dk_46 (dk_at dksX6_be_1 9 rfl rfl)
theorem dX6_be_34 : decode cX6_be 34 = .ok (.iastore, 1) := dk_79 (dk_at dksX6_be_1 10 rfl rfl)
theorem dX6_be_35 : decode cX6_be 35 = .ok (.aload_n 0, 1) := dk_42 (dk_at dksX6_be_1 11 rfl rfl)
theorem dX6_be_36 : decode cX6_be 36 = .ok (.getfield 38, 3) := dk_180 0 38 (dk_at dksX6_be_1 12 rfl rfl)
theorem dX6_be_39 : decode cX6_be 39 = .ok (.iload_n 2, 1) := dk_28 (dk_at dksX6_be_1 15 rfl rfl)
theorem dX6_be_40 : decode cX6_be 40 = .ok (.aload_n 1, 1) := dk_43 (dk_at dksX6_be_1 16 rfl rfl)
theorem dX6_be_41 : decode cX6_be 41 = .ok (.getfield 38, 3) := dk_180 0 38 (dk_at dksX6_be_1 17 rfl rfl)
theorem dX6_be_44 : decode cX6_be 44 = .ok (.iload_n 2, 1) := dk_28 (dk_at dksX6_be_1 20 rfl rfl)
theorem dX6_be_45 : decode cX6_be 45 = .ok (.iaload, 1) := dk_46 (dk_at dksX6_be_1 21 rfl rfl)
theorem dX6_be_46 : decode cX6_be 46 = .ok (.iastore, 1) := dk_79 (dk_at dksX6_be_1 22 rfl rfl)
theorem dX6_be_47 : decode cX6_be 47 = .ok (.iconst 0, 1) := dk_3 (dk_at dksX6_be_1 23 rfl rfl)
theorem dX6_be_48 : decode cX6_be 48 = .ok (.istore_n 3, 1) := dk_62 (dk_at dksX6_be_2 0 rfl rfl)
theorem dX6_be_49 : decode cX6_be 49 = .ok (.iload_n 3, 1) := dk_29 (dk_at dksX6_be_2 1 rfl rfl)
theorem dX6_be_50 : decode cX6_be 50 = .ok (.bipush 64, 2) := dk_16 64 (dk_at dksX6_be_2 2 rfl rfl)
theorem dX6_be_52 : decode cX6_be 52 = .ok (.if_icmp .ge 60, 3) := dk_162 0 60 (dk_at dksX6_be_2 4 rfl rfl)
theorem dX6_be_55 : decode cX6_be 55 = .ok (.aload_n 0, 1) := dk_42 (dk_at dksX6_be_2 7 rfl rfl)
theorem dX6_be_56 : decode cX6_be 56 = .ok (.getfield 17, 3) := dk_180 0 17 (dk_at dksX6_be_2 8 rfl rfl)
theorem dX6_be_59 : decode cX6_be 59 = .ok (.iload_n 2, 1) := dk_28 (dk_at dksX6_be_2 11 rfl rfl)
theorem dX6_be_60 : decode cX6_be 60 = .ok (.aaload, 1) := dk_50 (dk_at dksX6_be_2 12 rfl rfl)
theorem dX6_be_61 : decode cX6_be 61 = .ok (.iload_n 3, 1) := dk_29 (dk_at dksX6_be_2 13 rfl rfl)
theorem dX6_be_62 : decode cX6_be 62 = .ok (.aaload, 1) := dk_50 (dk_at dksX6_be_2 14 rfl rfl)
theorem dX6_be_63 : decode cX6_be 63 = .ok (.aload_n 1, 1) := dk_43 (dk_at dksX6_be_2 15 rfl rfl)
theorem dX6_be_64 : decode cX6_be 64 = .ok (.getfield 17, 3) := dk_180 0 17 (dk_at dksX6_be_2 16 rfl rfl)
theorem dX6_be_67 : decode cX6_be 67 = .ok (.iload_n 2, 1) := dk_28 (dk_at dksX6_be_2 19 rfl rfl)
theorem dX6_be_68 : decode cX6_be 68 = .ok (.aaload, 1) := dk_50 (dk_at dksX6_be_2 20 rfl rfl)
theorem dX6_be_69 : decode cX6_be 69 = .ok (.iload_n 3, 1) := dk_29 (dk_at dksX6_be_2 21 rfl rfl)
theorem dX6_be_70 : decode cX6_be 70 = .ok (.aaload, 1) := dk_50 (dk_at dksX6_be_2 22 rfl rfl)
theorem dX6_be_71 : decode cX6_be 71 = .ok (.invokevirtual 111, 3) := dk_182 0 111 (dk_at dksX6_be_3 0 rfl rfl)
theorem dX6_be_74 : decode cX6_be 74 = .ok (.aload_n 0, 1) := dk_42 (dk_at dksX6_be_3 3 rfl rfl)
theorem dX6_be_75 : decode cX6_be 75 = .ok (.getfield 22, 3) := dk_180 0 22 (dk_at dksX6_be_3 4 rfl rfl)
theorem dX6_be_78 : decode cX6_be 78 = .ok (.iload_n 2, 1) := dk_28 (dk_at dksX6_be_3 7 rfl rfl)
theorem dX6_be_79 : decode cX6_be 79 = .ok (.aaload, 1) := dk_50 (dk_at dksX6_be_3 8 rfl rfl)
theorem dX6_be_80 : decode cX6_be 80 = .ok (.iload_n 3, 1) := dk_29 (dk_at dksX6_be_3 9 rfl rfl)
theorem dX6_be_81 : decode cX6_be 81 = .ok (.aload_n 1, 1) := dk_43 (dk_at dksX6_be_3 10 rfl rfl)
theorem dX6_be_82 : decode cX6_be 82 = .ok (.getfield 22, 3) := dk_180 0 22 (dk_at dksX6_be_3 11 rfl rfl)
theorem dX6_be_85 : decode cX6_be 85 = .ok (.iload_n 2, 1) := dk_28 (dk_at dksX6_be_3 14 rfl rfl)
theorem dX6_be_86 : decode cX6_be 86 = .ok (.aaload, 1) := dk_50 (dk_at dksX6_be_3 15 rfl rfl)
theorem dX6_be_87 : decode cX6_be 87 = .ok (.iload_n 3, 1) := dk_29 (dk_at dksX6_be_3 16 rfl rfl)
theorem dX6_be_88 : decode cX6_be 88 = .ok (.iaload, 1) := dk_46 (dk_at dksX6_be_3 17 rfl rfl)
theorem dX6_be_89 : decode cX6_be 89 = .ok (.iastore, 1) := dk_79 (dk_at dksX6_be_3 18 rfl rfl)
theorem dX6_be_90 : decode cX6_be 90 = .ok (.aload_n 0, 1) := dk_42 (dk_at dksX6_be_3 19 rfl rfl)
theorem dX6_be_91 : decode cX6_be 91 = .ok (.getfield 25, 3) := dk_180 0 25 (dk_at dksX6_be_3 20 rfl rfl)
theorem dX6_be_94 : decode cX6_be 94 = .ok (.iload_n 2, 1) := dk_28 (dk_at dksX6_be_3 23 rfl rfl)
theorem dX6_be_95 : decode cX6_be 95 = .ok (.aaload, 1) := dk_50 (dk_at dksX6_be_4 0 rfl rfl)
theorem dX6_be_96 : decode cX6_be 96 = .ok (.iload_n 3, 1) := dk_29 (dk_at dksX6_be_4 1 rfl rfl)
theorem dX6_be_97 : decode cX6_be 97 = .ok (.aload_n 1, 1) := dk_43 (dk_at dksX6_be_4 2 rfl rfl)
theorem dX6_be_98 : decode cX6_be 98 = .ok (.getfield 25, 3) := dk_180 0 25 (dk_at dksX6_be_4 3 rfl rfl)
theorem dX6_be_101 : decode cX6_be 101 = .ok (.iload_n 2, 1) := dk_28 (dk_at dksX6_be_4 6 rfl rfl)
theorem dX6_be_102 : decode cX6_be 102 = .ok (.aaload, 1) := dk_50 (dk_at dksX6_be_4 7 rfl rfl)
theorem dX6_be_103 : decode cX6_be 103 = .ok (.iload_n 3, 1) := dk_29 (dk_at dksX6_be_4 8 rfl rfl)
theorem dX6_be_104 : decode cX6_be 104 = .ok (.iaload, 1) := dk_46 (dk_at dksX6_be_4 9 rfl rfl)
theorem dX6_be_105 : decode cX6_be 105 = .ok (.iastore, 1) := dk_79 (dk_at dksX6_be_4 10 rfl rfl)
theorem dX6_be_106 : decode cX6_be 106 = .ok (.iinc 3 1, 3) := dk_132 3 1 (dk_at dksX6_be_4 11 rfl rfl)
theorem dX6_be_109 : decode cX6_be 109 = .ok (.goto (-60), 3) := dk_167 255 196 (dk_at dksX6_be_4 14 rfl rfl)
theorem dX6_be_112 : decode cX6_be 112 = .ok (.iconst 0, 1) := dk_3 (dk_at dksX6_be_4 17 rfl rfl)
theorem dX6_be_113 : decode cX6_be 113 = .ok (.istore_n 3, 1) := dk_62 (dk_at dksX6_be_4 18 rfl rfl)
theorem dX6_be_114 : decode cX6_be 114 = .ok (.iload_n 3, 1) := dk_29 (dk_at dksX6_be_4 19 rfl rfl)
theorem dX6_be_115 : decode cX6_be 115 = .ok (.bipush 16, 2) := dk_16 16 (dk_at dksX6_be_4 20 rfl rfl)
theorem dX6_be_117 : decode cX6_be 117 = .ok (.if_icmp .ge 41, 3) := dk_162 0 41 (dk_at dksX6_be_5 0 rfl rfl)
theorem dX6_be_120 : decode cX6_be 120 = .ok (.aload_n 0, 1) := dk_42 (dk_at dksX6_be_5 3 rfl rfl)
theorem dX6_be_121 : decode cX6_be 121 = .ok (.getfield 28, 3) := dk_180 0 28 (dk_at dksX6_be_5 4 rfl rfl)
theorem dX6_be_124 : decode cX6_be 124 = .ok (.iload_n 2, 1) := dk_28 (dk_at dksX6_be_5 7 rfl rfl)
theorem dX6_be_125 : decode cX6_be 125 = .ok (.aaload, 1) := dk_50 (dk_at dksX6_be_5 8 rfl rfl)
theorem dX6_be_126 : decode cX6_be 126 = .ok (.iload_n 3, 1) := dk_29 (dk_at dksX6_be_5 9 rfl rfl)
theorem dX6_be_127 : decode cX6_be 127 = .ok (.aload_n 1, 1) := dk_43 (dk_at dksX6_be_5 10 rfl rfl)
theorem dX6_be_128 : decode cX6_be 128 = .ok (.getfield 28, 3) := dk_180 0 28 (dk_at dksX6_be_5 11 rfl rfl)
theorem dX6_be_131 : decode cX6_be 131 = .ok (.iload_n 2, 1) := dk_28 (dk_at dksX6_be_5 14 rfl rfl)
theorem dX6_be_132 : decode cX6_be 132 = .ok (.aaload, 1) := dk_50 (dk_at dksX6_be_5 15 rfl rfl)
theorem dX6_be_133 : decode cX6_be 133 = .ok (.iload_n 3, 1) := dk_29 (dk_at dksX6_be_5 16 rfl rfl)
theorem dX6_be_134 : decode cX6_be 134 = .ok (.iaload, 1) := dk_46 (dk_at dksX6_be_5 17 rfl rfl)
theorem dX6_be_135 : decode cX6_be 135 = .ok (.iastore, 1) := dk_79 (dk_at dksX6_be_5 18 rfl rfl)
theorem dX6_be_136 : decode cX6_be 136 = .ok (.aload_n 0, 1) := dk_42 (dk_at dksX6_be_5 19 rfl rfl)
theorem dX6_be_137 : decode cX6_be 137 = .ok (.getfield 31, 3) := dk_180 0 31 (dk_at dksX6_be_5 20 rfl rfl)
theorem dX6_be_140 : decode cX6_be 140 = .ok (.iload_n 2, 1) := dk_28 (dk_at dksX6_be_5 23 rfl rfl)
theorem dX6_be_141 : decode cX6_be 141 = .ok (.aaload, 1) := dk_50 (dk_at dksX6_be_6 0 rfl rfl)
theorem dX6_be_142 : decode cX6_be 142 = .ok (.iload_n 3, 1) := dk_29 (dk_at dksX6_be_6 1 rfl rfl)
theorem dX6_be_143 : decode cX6_be 143 = .ok (.aload_n 1, 1) := dk_43 (dk_at dksX6_be_6 2 rfl rfl)
theorem dX6_be_144 : decode cX6_be 144 = .ok (.getfield 31, 3) := dk_180 0 31 (dk_at dksX6_be_6 3 rfl rfl)
theorem dX6_be_147 : decode cX6_be 147 = .ok (.iload_n 2, 1) := dk_28 (dk_at dksX6_be_6 6 rfl rfl)
theorem dX6_be_148 : decode cX6_be 148 = .ok (.aaload, 1) := dk_50 (dk_at dksX6_be_6 7 rfl rfl)
theorem dX6_be_149 : decode cX6_be 149 = .ok (.iload_n 3, 1) := dk_29 (dk_at dksX6_be_6 8 rfl rfl)
theorem dX6_be_150 : decode cX6_be 150 = .ok (.iaload, 1) := dk_46 (dk_at dksX6_be_6 9 rfl rfl)
theorem dX6_be_151 : decode cX6_be 151 = .ok (.iastore, 1) := dk_79 (dk_at dksX6_be_6 10 rfl rfl)
theorem dX6_be_152 : decode cX6_be 152 = .ok (.iinc 3 1, 3) := dk_132 3 1 (dk_at dksX6_be_6 11 rfl rfl)
theorem dX6_be_155 : decode cX6_be 155 = .ok (.goto (-41), 3) := dk_167 255 215 (dk_at dksX6_be_6 14 rfl rfl)
theorem dX6_be_158 : decode cX6_be 158 = .ok (.iconst 0, 1) := dk_3 (dk_at dksX6_be_6 17 rfl rfl)
theorem dX6_be_159 : decode cX6_be 159 = .ok (.istore_n 3, 1) := dk_62 (dk_at dksX6_be_6 18 rfl rfl)
theorem dX6_be_160 : decode cX6_be 160 = .ok (.iload_n 3, 1) := dk_29 (dk_at dksX6_be_6 19 rfl rfl)
theorem dX6_be_161 : decode cX6_be 161 = .ok (.iconst 4, 1) := dk_7 (dk_at dksX6_be_6 20 rfl rfl)
theorem dX6_be_162 : decode cX6_be 162 = .ok (.if_icmp .ge 25, 3) := dk_162 0 25 (dk_at dksX6_be_6 21 rfl rfl)
theorem dX6_be_165 : decode cX6_be 165 = .ok (.aload_n 0, 1) := dk_42 (dk_at dksX6_be_7 0 rfl rfl)
theorem dX6_be_166 : decode cX6_be 166 = .ok (.getfield 41, 3) := dk_180 0 41 (dk_at dksX6_be_7 1 rfl rfl)
theorem dX6_be_169 : decode cX6_be 169 = .ok (.iload_n 2, 1) := dk_28 (dk_at dksX6_be_7 4 rfl rfl)
theorem dX6_be_170 : decode cX6_be 170 = .ok (.aaload, 1) := dk_50 (dk_at dksX6_be_7 5 rfl rfl)
theorem dX6_be_171 : decode cX6_be 171 = .ok (.iload_n 3, 1) := dk_29 (dk_at dksX6_be_7 6 rfl rfl)
theorem dX6_be_172 : decode cX6_be 172 = .ok (.aload_n 1, 1) := dk_43 (dk_at dksX6_be_7 7 rfl rfl)
theorem dX6_be_173 : decode cX6_be 173 = .ok (.getfield 41, 3) := dk_180 0 41 (dk_at dksX6_be_7 8 rfl rfl)
theorem dX6_be_176 : decode cX6_be 176 = .ok (.iload_n 2, 1) := dk_28 (dk_at dksX6_be_7 11 rfl rfl)
theorem dX6_be_177 : decode cX6_be 177 = .ok (.aaload, 1) := dk_50 (dk_at dksX6_be_7 12 rfl rfl)
theorem dX6_be_178 : decode cX6_be 178 = .ok (.iload_n 3, 1) := dk_29 (dk_at dksX6_be_7 13 rfl rfl)
theorem dX6_be_179 : decode cX6_be 179 = .ok (.iaload, 1) := dk_46 (dk_at dksX6_be_7 14 rfl rfl)
theorem dX6_be_180 : decode cX6_be 180 = .ok (.iastore, 1) := dk_79 (dk_at dksX6_be_7 15 rfl rfl)
theorem dX6_be_181 : decode cX6_be 181 = .ok (.iinc 3 1, 3) := dk_132 3 1 (dk_at dksX6_be_7 16 rfl rfl)
theorem dX6_be_184 : decode cX6_be 184 = .ok (.goto (-24), 3) := dk_167 255 232 (dk_at dksX6_be_7 19 rfl rfl)
theorem dX6_be_187 : decode cX6_be 187 = .ok (.iinc 2 1, 3) := dk_132 2 1 (dk_at dksX6_be_8 0 rfl rfl)
theorem dX6_be_190 : decode cX6_be 190 = .ok (.goto (-172), 3) := dk_167 255 84 (dk_at dksX6_be_8 3 rfl rfl)
theorem dX6_be_193 : decode cX6_be 193 = .ok (.aload_n 0, 1) := dk_42 (dk_at dksX6_be_8 6 rfl rfl)
theorem dX6_be_194 : decode cX6_be 194 = .ok (.getfield 47, 3) := dk_180 0 47 (dk_at dksX6_be_8 7 rfl rfl)
theorem dX6_be_197 : decode cX6_be 197 = .ok (.invokevirtual 115, 3) := dk_182 0 115 (dk_at dksX6_be_8 10 rfl rfl)
theorem dX6_be_200 : decode cX6_be 200 = .ok (.aload_n 0, 1) := dk_42 (dk_at dksX6_be_8 13 rfl rfl)
theorem dX6_be_201 : decode cX6_be 201 = .ok (.getfield 51, 3) := dk_180 0 51 (dk_at dksX6_be_8 14 rfl rfl)
theorem dX6_be_204 : decode cX6_be 204 = .ok (.invokevirtual 115, 3) := dk_182 0 115 (dk_at dksX6_be_8 17 rfl rfl)
theorem dX6_be_207 : decode cX6_be 207 = .ok (.aload_n 1, 1) := dk_43 (dk_at dksX6_be_8 20 rfl rfl)
theorem dX6_be_208 : decode cX6_be 208 = .ok (.getfield 47, 3) := dk_180 0 47 (dk_at dksX6_be_8 21 rfl rfl)
theorem dX6_be_211 : decode cX6_be 211 = .ok (.invokevirtual 118, 3) := dk_182 0 118 (dk_at dksX6_be_9 0 rfl rfl)
theorem dX6_be_214 : decode cX6_be 214 = .ok (.astore_n 2, 1) := dk_77 (dk_at dksX6_be_9 3 rfl rfl)
theorem dX6_be_215 : decode cX6_be 215 = .ok (.aload_n 2, 1) := dk_44 (dk_at dksX6_be_9 4 rfl rfl)
theorem dX6_be_216 : decode cX6_be 216 = .ok (.invokeinterface 122 1, 5) := by decide +kernel
theorem dX6_be_221 : decode cX6_be 221 = .ok (.ifCond .eq 22, 3) := dk_153 0 22 (dk_at dksX6_be_9 10 rfl rfl)
theorem dX6_be_224 : decode cX6_be 224 = .ok (.aload_n 0, 1) := dk_42 (dk_at dksX6_be_9 13 rfl rfl)
theorem dX6_be_225 : decode cX6_be 225 = .ok (.aload_n 2, 1) := dk_44 (dk_at dksX6_be_9 14 rfl rfl)
theorem dX6_be_226 : decode cX6_be 226 = .ok (.invokeinterface 128 1, 5) := by decide +kernel
theorem dX6_be_231 : decode cX6_be 231 = .ok (.checkcast 132, 3) := dk_192 0 132 (dk_at dksX6_be_9 20 rfl rfl)
theorem dX6_be_234 : decode cX6_be 234 = .ok (.invokevirtual 134, 3) := dk_182 0 134 (dk_at dksX6_be_10 0 rfl rfl)
theorem dX6_be_237 : decode cX6_be 237 = .ok (.invokevirtual 138, 3) := dk_182 0 138 (dk_at dksX6_be_10 3 rfl rfl)
theorem dX6_be_240 : decode cX6_be 240 = .ok (.goto (-25), 3) := dk_167 255 231 (dk_at dksX6_be_10 6 rfl rfl)
theorem dX6_be_243 : decode cX6_be 243 = .ok (.aload_n 0, 1) := dk_42 (dk_at dksX6_be_10 9 rfl rfl)
theorem dX6_be_244 : decode cX6_be 244 = .ok (.getfield 57, 3) := dk_180 0 57 (dk_at dksX6_be_10 10 rfl rfl)
theorem dX6_be_247 : decode cX6_be 247 = .ok (.invokevirtual 142, 3) := dk_182 0 142 (dk_at dksX6_be_10 13 rfl rfl)
theorem dX6_be_250 : decode cX6_be 250 = .ok (.aload_n 1, 1) := dk_43 (dk_at dksX6_be_10 16 rfl rfl)
theorem dX6_be_251 : decode cX6_be 251 = .ok (.getfield 57, 3) := dk_180 0 57 (dk_at dksX6_be_10 17 rfl rfl)
theorem dX6_be_254 : decode cX6_be 254 = .ok (.invokevirtual 143, 3) := dk_182 0 143 (dk_at dksX6_be_10 20 rfl rfl)
theorem dX6_be_257 : decode cX6_be 257 = .ok (.astore_n 2, 1) := dk_77 (dk_at dksX6_be_10 23 rfl rfl)
theorem dX6_be_258 : decode cX6_be 258 = .ok (.aload_n 2, 1) := dk_44 (dk_at dksX6_be_11 0 rfl rfl)
theorem dX6_be_259 : decode cX6_be 259 = .ok (.invokeinterface 122 1, 5) := by decide +kernel
theorem dX6_be_264 : decode cX6_be 264 = .ok (.ifCond .eq 24, 3) := dk_153 0 24 (dk_at dksX6_be_11 6 rfl rfl)
theorem dX6_be_267 : decode cX6_be 267 = .ok (.aload_n 2, 1) := dk_44 (dk_at dksX6_be_11 9 rfl rfl)
theorem dX6_be_268 : decode cX6_be 268 = .ok (.invokeinterface 128 1, 5) := by decide +kernel
theorem dX6_be_273 : decode cX6_be 273 = .ok (.checkcast 144, 3) := dk_192 0 144 (dk_at dksX6_be_11 15 rfl rfl)
theorem dX6_be_276 : decode cX6_be 276 = .ok (.astore_n 3, 1) := dk_78 (dk_at dksX6_be_11 18 rfl rfl)
theorem dX6_be_277 : decode cX6_be 277 = .ok (.aload_n 0, 1) := dk_42 (dk_at dksX6_be_11 19 rfl rfl)
theorem dX6_be_278 : decode cX6_be 278 = .ok (.getfield 57, 3) := dk_180 0 57 (dk_at dksX6_be_11 20 rfl rfl)
theorem dX6_be_281 : decode cX6_be 281 = .ok (.aload_n 3, 1) := dk_45 (dk_at dksX6_be_11 23 rfl rfl)
theorem dX6_be_282 : decode cX6_be 282 = .ok (.invokevirtual 146, 3) := dk_182 0 146 (dk_at dksX6_be_12 0 rfl rfl)
theorem dX6_be_285 : decode cX6_be 285 = .ok (.goto (-27), 3) := dk_167 255 229 (dk_at dksX6_be_12 3 rfl rfl)
theorem dX6_be_288 : decode cX6_be 288 = .ok (.aload_n 0, 1) := dk_42 (dk_at dksX6_be_12 6 rfl rfl)
theorem dX6_be_289 : decode cX6_be 289 = .ok (.getfield 64, 3) := dk_180 0 64 (dk_at dksX6_be_12 7 rfl rfl)
theorem dX6_be_292 : decode cX6_be 292 = .ok (.invokevirtual 150, 3) := dk_182 0 150 (dk_at dksX6_be_12 10 rfl rfl)
theorem dX6_be_295 : decode cX6_be 295 = .ok (.aload_n 0, 1) := dk_42 (dk_at dksX6_be_12 13 rfl rfl)
theorem dX6_be_296 : decode cX6_be 296 = .ok (.getfield 64, 3) := dk_180 0 64 (dk_at dksX6_be_12 14 rfl rfl)
theorem dX6_be_299 : decode cX6_be 299 = .ok (.aload_n 1, 1) := dk_43 (dk_at dksX6_be_12 17 rfl rfl)
theorem dX6_be_300 : decode cX6_be 300 = .ok (.getfield 64, 3) := dk_180 0 64 (dk_at dksX6_be_12 18 rfl rfl)
theorem dX6_be_303 : decode cX6_be 303 = .ok (.invokevirtual 151, 3) := dk_182 0 151 (dk_at dksX6_be_12 21 rfl rfl)
theorem dX6_be_306 : decode cX6_be 306 = .ok (.aload_n 0, 1) := dk_42 (dk_at dksX6_be_13 0 rfl rfl)
theorem dX6_be_307 : decode cX6_be 307 = .ok (.areturn, 1) := dk_176 (dk_at dksX6_be_13 1 rfl rfl)
abbrev cX6_close : ByteArray := prog_3_method_16_code
def yX6_close : MethodName := ⟨RX6, "close", "()LExemptDesk$Books;"⟩
def dkwX6_close_4 : List UInt8 := [181, 0, 105, 42, 182, 0, 102, 42, 176]
abbrev dktX6_close_4 : List UInt8 := dkwX6_close_4 ++ []
def dkwX6_close_3 : List UInt8 := [167, 255, 222, 42, 180, 0, 105, 7, 112, 6, 160, 0, 7, 42, 182, 1, 35, 42, 89, 180, 0, 105, 4, 96]
abbrev dktX6_close_3 : List UInt8 := dkwX6_close_3 ++ dktX6_close_4
def dkwX6_close_2 : List UInt8 := [185, 0, 128, 1, 0, 192, 0, 132, 77, 44, 180, 1, 29, 42, 180, 0, 105, 7, 112, 44, 180, 1, 32, 79]
abbrev dktX6_close_2 : List UInt8 := dkwX6_close_2 ++ dktX6_close_3
def dkwX6_close_1 : List UInt8 := [167, 255, 234, 42, 180, 0, 51, 182, 0, 118, 76, 43, 185, 0, 122, 1, 0, 153, 0, 31, 43]
abbrev dktX6_close_1 : List UInt8 := dkwX6_close_1 ++ dktX6_close_2
def dkwX6_close_0 : List UInt8 := [3, 60, 27, 42, 180, 0, 3, 180, 0, 75, 182, 0, 79, 162, 0, 14, 42, 27, 182, 1, 25, 132, 1, 1]
abbrev dktX6_close_0 : List UInt8 := dkwX6_close_0 ++ dktX6_close_1
theorem dksX6_close_0 : cX6_close.data.toList.drop 0 = dktX6_close_0 := by decide +kernel
theorem dksX6_close_1 : cX6_close.data.toList.drop 24 = dktX6_close_1 := dk_seg dksX6_close_0 24 rfl rfl
theorem dksX6_close_2 : cX6_close.data.toList.drop 45 = dktX6_close_2 := dk_seg dksX6_close_1 21 rfl rfl
theorem dksX6_close_3 : cX6_close.data.toList.drop 69 = dktX6_close_3 := dk_seg dksX6_close_2 24 rfl rfl
theorem dksX6_close_4 : cX6_close.data.toList.drop 93 = dktX6_close_4 := dk_seg dksX6_close_3 24 rfl rfl
theorem dX6_close_0 : decode cX6_close 0 = .ok (.iconst 0, 1) := dk_3 (dk_at dksX6_close_0 0 rfl rfl)
theorem dX6_close_1 : decode cX6_close 1 = .ok (.istore_n 1, 1) := dk_60 (dk_at dksX6_close_0 1 rfl rfl)
theorem dX6_close_2 : decode cX6_close 2 = .ok (.iload_n 1, 1) := dk_27 (dk_at dksX6_close_0 2 rfl rfl)
theorem dX6_close_3 : decode cX6_close 3 = .ok (.aload_n 0, 1) := dk_42 (dk_at dksX6_close_0 3 rfl rfl)
theorem dX6_close_4 : decode cX6_close 4 = .ok (.getfield 3, 3) := dk_180 0 3 (dk_at dksX6_close_0 4 rfl rfl)
theorem dX6_close_7 : decode cX6_close 7 = .ok (.getfield 75, 3) := dk_180 0 75 (dk_at dksX6_close_0 7 rfl rfl)
theorem dX6_close_10 : decode cX6_close 10 = .ok (.invokevirtual 79, 3) := dk_182 0 79 (dk_at dksX6_close_0 10 rfl rfl)
theorem dX6_close_13 : decode cX6_close 13 = .ok (.if_icmp .ge 14, 3) := dk_162 0 14 (dk_at dksX6_close_0 13 rfl rfl)
theorem dX6_close_16 : decode cX6_close 16 = .ok (.aload_n 0, 1) := dk_42 (dk_at dksX6_close_0 16 rfl rfl)
theorem dX6_close_17 : decode cX6_close 17 = .ok (.iload_n 1, 1) := dk_27 (dk_at dksX6_close_0 17 rfl rfl)
theorem dX6_close_18 : decode cX6_close 18 = .ok (.invokevirtual 281, 3) := dk_182 1 25 (dk_at dksX6_close_0 18 rfl rfl)
theorem dX6_close_21 : decode cX6_close 21 = .ok (.iinc 1 1, 3) := dk_132 1 1 (dk_at dksX6_close_0 21 rfl rfl)
theorem dX6_close_24 : decode cX6_close 24 = .ok (.goto (-22), 3) := dk_167 255 234 (dk_at dksX6_close_1 0 rfl rfl)
theorem dX6_close_27 : decode cX6_close 27 = .ok (.aload_n 0, 1) := dk_42 (dk_at dksX6_close_1 3 rfl rfl)
theorem dX6_close_28 : decode cX6_close 28 = .ok (.getfield 51, 3) := dk_180 0 51 (dk_at dksX6_close_1 4 rfl rfl)
theorem dX6_close_31 : decode cX6_close 31 = .ok (.invokevirtual 118, 3) := dk_182 0 118 (dk_at dksX6_close_1 7 rfl rfl)
theorem dX6_close_34 : decode cX6_close 34 = .ok (.astore_n 1, 1) := dk_76 (dk_at dksX6_close_1 10 rfl rfl)
theorem dX6_close_35 : decode cX6_close 35 = .ok (.aload_n 1, 1) := dk_43 (dk_at dksX6_close_1 11 rfl rfl)
theorem dX6_close_36 : decode cX6_close 36 = .ok (.invokeinterface 122 1, 5) := by decide +kernel
theorem dX6_close_41 : decode cX6_close 41 = .ok (.ifCond .eq 31, 3) := dk_153 0 31 (dk_at dksX6_close_1 17 rfl rfl)
theorem dX6_close_44 : decode cX6_close 44 = .ok (.aload_n 1, 1) := dk_43 (dk_at dksX6_close_1 20 rfl rfl)
theorem dX6_close_45 : decode cX6_close 45 = .ok (.invokeinterface 128 1, 5) := by decide +kernel
theorem dX6_close_50 : decode cX6_close 50 = .ok (.checkcast 132, 3) := dk_192 0 132 (dk_at dksX6_close_2 5 rfl rfl)
theorem dX6_close_53 : decode cX6_close 53 = .ok (.astore_n 2, 1) := dk_77 (dk_at dksX6_close_2 8 rfl rfl)
theorem dX6_close_54 : decode cX6_close 54 = .ok (.aload_n 2, 1) := dk_44 (dk_at dksX6_close_2 9 rfl rfl)
theorem dX6_close_55 : decode cX6_close 55 = .ok (.getfield 285, 3) := dk_180 1 29 (dk_at dksX6_close_2 10 rfl rfl)
theorem dX6_close_58 : decode cX6_close 58 = .ok (.aload_n 0, 1) := dk_42 (dk_at dksX6_close_2 13 rfl rfl)
theorem dX6_close_59 : decode cX6_close 59 = .ok (.getfield 105, 3) := dk_180 0 105 (dk_at dksX6_close_2 14 rfl rfl)
theorem dX6_close_62 : decode cX6_close 62 = .ok (.iconst 4, 1) := dk_7 (dk_at dksX6_close_2 17 rfl rfl)
theorem dX6_close_63 : decode cX6_close 63 = .ok (.irem, 1) := dk_112 (dk_at dksX6_close_2 18 rfl rfl)
theorem dX6_close_64 : decode cX6_close 64 = .ok (.aload_n 2, 1) := dk_44 (dk_at dksX6_close_2 19 rfl rfl)
theorem dX6_close_65 : decode cX6_close 65 = .ok (.getfield 288, 3) := dk_180 1 32 (dk_at dksX6_close_2 20 rfl rfl)
theorem dX6_close_68 : decode cX6_close 68 = .ok (.iastore, 1) := dk_79 (dk_at dksX6_close_2 23 rfl rfl)
theorem dX6_close_69 : decode cX6_close 69 = .ok (.goto (-34), 3) := dk_167 255 222 (dk_at dksX6_close_3 0 rfl rfl)
theorem dX6_close_72 : decode cX6_close 72 = .ok (.aload_n 0, 1) := dk_42 (dk_at dksX6_close_3 3 rfl rfl)
theorem dX6_close_73 : decode cX6_close 73 = .ok (.getfield 105, 3) := dk_180 0 105 (dk_at dksX6_close_3 4 rfl rfl)
theorem dX6_close_76 : decode cX6_close 76 = .ok (.iconst 4, 1) := dk_7 (dk_at dksX6_close_3 7 rfl rfl)
theorem dX6_close_77 : decode cX6_close 77 = .ok (.irem, 1) := dk_112 (dk_at dksX6_close_3 8 rfl rfl)
theorem dX6_close_78 : decode cX6_close 78 = .ok (.iconst 3, 1) := dk_6 (dk_at dksX6_close_3 9 rfl rfl)
theorem dX6_close_79 : decode cX6_close 79 = .ok (.if_icmp .ne 7, 3) := dk_160 0 7 (dk_at dksX6_close_3 10 rfl rfl)
theorem dX6_close_82 : decode cX6_close 82 = .ok (.aload_n 0, 1) := dk_42 (dk_at dksX6_close_3 13 rfl rfl)
theorem dX6_close_83 : decode cX6_close 83 = .ok (.invokevirtual 291, 3) := dk_182 1 35 (dk_at dksX6_close_3 14 rfl rfl)
theorem dX6_close_86 : decode cX6_close 86 = .ok (.aload_n 0, 1) := dk_42 (dk_at dksX6_close_3 17 rfl rfl)
theorem dX6_close_87 : decode cX6_close 87 = .ok (.dup, 1) := dk_89 (dk_at dksX6_close_3 18 rfl rfl)
theorem dX6_close_88 : decode cX6_close 88 = .ok (.getfield 105, 3) := dk_180 0 105 (dk_at dksX6_close_3 19 rfl rfl)
theorem dX6_close_91 : decode cX6_close 91 = .ok (.iconst 1, 1) := dk_4 (dk_at dksX6_close_3 22 rfl rfl)
theorem dX6_close_92 : decode cX6_close 92 = .ok (.iadd, 1) := dk_96 (dk_at dksX6_close_3 23 rfl rfl)
theorem dX6_close_93 : decode cX6_close 93 = .ok (.putfield 105, 3) := dk_181 0 105 (dk_at dksX6_close_4 0 rfl rfl)
theorem dX6_close_96 : decode cX6_close 96 = .ok (.aload_n 0, 1) := dk_42 (dk_at dksX6_close_4 3 rfl rfl)
theorem dX6_close_97 : decode cX6_close 97 = .ok (.invokevirtual 102, 3) := dk_182 0 102 (dk_at dksX6_close_4 4 rfl rfl)
theorem dX6_close_100 : decode cX6_close 100 = .ok (.aload_n 0, 1) := dk_42 (dk_at dksX6_close_4 7 rfl rfl)
theorem dX6_close_101 : decode cX6_close 101 = .ok (.areturn, 1) := dk_176 (dk_at dksX6_close_4 8 rfl rfl)
abbrev cX6_closeOf : ByteArray := prog_3_method_17_code
def yX6_closeOf : MethodName := ⟨RX6, "closeOf", "(I)V"⟩
def dkwX6_closeOf_4 : List UInt8 := [180, 0, 105, 46, 16, 254, 182, 1, 41, 177]
abbrev dktX6_closeOf_4 : List UInt8 := dkwX6_closeOf_4 ++ []
def dkwX6_closeOf_3 : List UInt8 := [180, 0, 75, 180, 1, 8, 7, 108, 182, 1, 11, 79, 42, 27, 3, 42, 180, 0, 25, 27, 50, 42]
abbrev dktX6_closeOf_3 : List UInt8 := dkwX6_closeOf_3 ++ dktX6_closeOf_4
def dkwX6_closeOf_2 : List UInt8 := [180, 0, 105, 46, 42, 180, 0, 3, 180, 0, 75, 180, 0, 234, 42, 182, 0, 237, 42, 180, 0, 3]
abbrev dktX6_closeOf_2 : List UInt8 := dkwX6_closeOf_2 ++ dktX6_closeOf_3
def dkwX6_closeOf_1 : List UInt8 := [27, 50, 42, 180, 0, 105, 42, 180, 0, 17, 27, 50, 42, 180, 0, 105, 50, 42, 180, 0, 22, 27, 50, 42]
abbrev dktX6_closeOf_1 : List UInt8 := dkwX6_closeOf_1 ++ dktX6_closeOf_2
def dkwX6_closeOf_0 : List UInt8 := [42, 180, 0, 22, 27, 50, 42, 180, 0, 105, 42, 27, 42, 180, 0, 105, 182, 1, 38, 79, 42, 180, 0, 25]
abbrev dktX6_closeOf_0 : List UInt8 := dkwX6_closeOf_0 ++ dktX6_closeOf_1
theorem dksX6_closeOf_0 : cX6_closeOf.data.toList.drop 0 = dktX6_closeOf_0 := by decide +kernel
theorem dksX6_closeOf_1 : cX6_closeOf.data.toList.drop 24 = dktX6_closeOf_1 := dk_seg dksX6_closeOf_0 24 rfl rfl
theorem dksX6_closeOf_2 : cX6_closeOf.data.toList.drop 48 = dktX6_closeOf_2 := dk_seg dksX6_closeOf_1 24 rfl rfl
theorem dksX6_closeOf_3 : cX6_closeOf.data.toList.drop 70 = dktX6_closeOf_3 := dk_seg dksX6_closeOf_2 22 rfl rfl
theorem dksX6_closeOf_4 : cX6_closeOf.data.toList.drop 92 = dktX6_closeOf_4 := dk_seg dksX6_closeOf_3 22 rfl rfl
theorem dX6_closeOf_0 : decode cX6_closeOf 0 = .ok (.aload_n 0, 1) := dk_42 (dk_at dksX6_closeOf_0 0 rfl rfl)
theorem dX6_closeOf_1 : decode cX6_closeOf 1 = .ok (.getfield 22, 3) := dk_180 0 22 (dk_at dksX6_closeOf_0 1 rfl rfl)
theorem dX6_closeOf_4 : decode cX6_closeOf 4 = .ok (.iload_n 1, 1) := dk_27 (dk_at dksX6_closeOf_0 4 rfl rfl)
theorem dX6_closeOf_5 : decode cX6_closeOf 5 = .ok (.aaload, 1) := dk_50 (dk_at dksX6_closeOf_0 5 rfl rfl)
theorem dX6_closeOf_6 : decode cX6_closeOf 6 = .ok (.aload_n 0, 1) := dk_42 (dk_at dksX6_closeOf_0 6 rfl rfl)
theorem dX6_closeOf_7 : decode cX6_closeOf 7 = .ok (.getfield 105, 3) := dk_180 0 105 (dk_at dksX6_closeOf_0 7 rfl rfl)
theorem dX6_closeOf_10 : decode cX6_closeOf 10 = .ok (.aload_n 0, 1) := dk_42 (dk_at dksX6_closeOf_0 10 rfl rfl)
theorem dX6_closeOf_11 : decode cX6_closeOf 11 = .ok (.iload_n 1, 1) := dk_27 (dk_at dksX6_closeOf_0 11 rfl rfl)
theorem dX6_closeOf_12 : decode cX6_closeOf 12 = .ok (.aload_n 0, 1) := dk_42 (dk_at dksX6_closeOf_0 12 rfl rfl)
theorem dX6_closeOf_13 : decode cX6_closeOf 13 = .ok (.getfield 105, 3) := dk_180 0 105 (dk_at dksX6_closeOf_0 13 rfl rfl)
theorem dX6_closeOf_16 : decode cX6_closeOf 16 = .ok (.invokevirtual 294, 3) := dk_182 1 38 (dk_at dksX6_closeOf_0 16 rfl rfl)
theorem dX6_closeOf_19 : decode cX6_closeOf 19 = .ok (.iastore, 1) := dk_79 (dk_at dksX6_closeOf_0 19 rfl rfl)
theorem dX6_closeOf_20 : decode cX6_closeOf 20 = .ok (.aload_n 0, 1) := dk_42 (dk_at dksX6_closeOf_0 20 rfl rfl)
theorem dX6_closeOf_21 : decode cX6_closeOf 21 = .ok (.getfield 25, 3) := dk_180 0 25 (dk_at dksX6_closeOf_0 21 rfl rfl)
theorem dX6_closeOf_24 : decode cX6_closeOf 24 = .ok (.iload_n 1, 1) := dk_27 (dk_at dksX6_closeOf_1 0 rfl rfl)
theorem dX6_closeOf_25 : decode cX6_closeOf 25 = .ok (.aaload, 1) := dk_50 (dk_at dksX6_closeOf_1 1 rfl rfl)
theorem dX6_closeOf_26 : decode cX6_closeOf 26 = .ok (.aload_n 0, 1) := dk_42 (dk_at dksX6_closeOf_1 2 rfl rfl)
theorem dX6_closeOf_27 : decode cX6_closeOf 27 = .ok (.getfield 105, 3) := dk_180 0 105 (dk_at dksX6_closeOf_1 3 rfl rfl)
theorem dX6_closeOf_30 : decode cX6_closeOf 30 = .ok (.aload_n 0, 1) := dk_42 (dk_at dksX6_closeOf_1 6 rfl rfl)
theorem dX6_closeOf_31 : decode cX6_closeOf 31 = .ok (.getfield 17, 3) := dk_180 0 17 (dk_at dksX6_closeOf_1 7 rfl rfl)
theorem dX6_closeOf_34 : decode cX6_closeOf 34 = .ok (.iload_n 1, 1) := dk_27 (dk_at dksX6_closeOf_1 10 rfl rfl)
theorem dX6_closeOf_35 : decode cX6_closeOf 35 = .ok (.aaload, 1) := dk_50 (dk_at dksX6_closeOf_1 11 rfl rfl)
theorem dX6_closeOf_36 : decode cX6_closeOf 36 = .ok (.aload_n 0, 1) := dk_42 (dk_at dksX6_closeOf_1 12 rfl rfl)
theorem dX6_closeOf_37 : decode cX6_closeOf 37 = .ok (.getfield 105, 3) := dk_180 0 105 (dk_at dksX6_closeOf_1 13 rfl rfl)
theorem dX6_closeOf_40 : decode cX6_closeOf 40 = .ok (.aaload, 1) := dk_50 (dk_at dksX6_closeOf_1 16 rfl rfl)
theorem dX6_closeOf_41 : decode cX6_closeOf 41 = .ok (.aload_n 0, 1) := dk_42 (dk_at dksX6_closeOf_1 17 rfl rfl)
theorem dX6_closeOf_42 : decode cX6_closeOf 42 = .ok (.getfield 22, 3) := dk_180 0 22 (dk_at dksX6_closeOf_1 18 rfl rfl)
theorem dX6_closeOf_45 : decode cX6_closeOf 45 = .ok (.iload_n 1, 1) := dk_27 (dk_at dksX6_closeOf_1 21 rfl rfl)
theorem dX6_closeOf_46 : decode cX6_closeOf 46 = .ok (.aaload, 1) := dk_50 (dk_at dksX6_closeOf_1 22 rfl rfl)
theorem dX6_closeOf_47 : decode cX6_closeOf 47 = .ok (.aload_n 0, 1) := dk_42 (dk_at dksX6_closeOf_1 23 rfl rfl)
theorem dX6_closeOf_48 : decode cX6_closeOf 48 = .ok (.getfield 105, 3) := dk_180 0 105 (dk_at dksX6_closeOf_2 0 rfl rfl)
theorem dX6_closeOf_51 : decode cX6_closeOf 51 = .ok (.iaload, 1) := dk_46 (dk_at dksX6_closeOf_2 3 rfl rfl)
theorem dX6_closeOf_52 : decode cX6_closeOf 52 = .ok (.aload_n 0, 1) := dk_42 (dk_at dksX6_closeOf_2 4 rfl rfl)
theorem dX6_closeOf_53 : decode cX6_closeOf 53 = .ok (.getfield 3, 3) := dk_180 0 3 (dk_at dksX6_closeOf_2 5 rfl rfl)
theorem dX6_closeOf_56 : decode cX6_closeOf 56 = .ok (.getfield 75, 3) := dk_180 0 75 (dk_at dksX6_closeOf_2 8 rfl rfl)
theorem dX6_closeOf_59 : decode cX6_closeOf 59 = .ok (.getfield 234, 3) := dk_180 0 234 (dk_at dksX6_closeOf_2 11 rfl rfl)
theorem dX6_closeOf_62 : decode cX6_closeOf 62 = .ok (.aload_n 0, 1) := dk_42 (dk_at dksX6_closeOf_2 14 rfl rfl)
theorem dX6_closeOf_63 : decode cX6_closeOf 63 = .ok (.invokevirtual 237, 3) := dk_182 0 237 (dk_at dksX6_closeOf_2 15 rfl rfl)
theorem dX6_closeOf_66 : decode cX6_closeOf 66 = .ok (.aload_n 0, 1) := dk_42 (dk_at dksX6_closeOf_2 18 rfl rfl)
theorem dX6_closeOf_67 : decode cX6_closeOf 67 = .ok (.getfield 3, 3) := dk_180 0 3 (dk_at dksX6_closeOf_2 19 rfl rfl)
theorem dX6_closeOf_70 : decode cX6_closeOf 70 = .ok (.getfield 75, 3) := dk_180 0 75 (dk_at dksX6_closeOf_3 0 rfl rfl)
theorem dX6_closeOf_73 : decode cX6_closeOf 73 = .ok (.getfield 264, 3) := dk_180 1 8 (dk_at dksX6_closeOf_3 3 rfl rfl)
theorem dX6_closeOf_76 : decode cX6_closeOf 76 = .ok (.iconst 4, 1) := dk_7 (dk_at dksX6_closeOf_3 6 rfl rfl)
theorem dX6_closeOf_77 : decode cX6_closeOf 77 = .ok (.idiv, 1) := dk_108 (dk_at dksX6_closeOf_3 7 rfl rfl)
theorem dX6_closeOf_78 : decode cX6_closeOf 78 = .ok (.invokevirtual 267, 3) := dk_182 1 11 (dk_at dksX6_closeOf_3 8 rfl rfl)
theorem dX6_closeOf_81 : decode cX6_closeOf 81 = .ok (.iastore, 1) := dk_79 (dk_at dksX6_closeOf_3 11 rfl rfl)
theorem dX6_closeOf_82 : decode cX6_closeOf 82 = .ok (.aload_n 0, 1) := dk_42 (dk_at dksX6_closeOf_3 12 rfl rfl)
theorem dX6_closeOf_83 : decode cX6_closeOf 83 = .ok (.iload_n 1, 1) := dk_27 (dk_at dksX6_closeOf_3 13 rfl rfl)
theorem dX6_closeOf_84 : decode cX6_closeOf 84 = .ok (.iconst 0, 1) := dk_3 (dk_at dksX6_closeOf_3 14 rfl rfl)
theorem dX6_closeOf_85 : decode cX6_closeOf 85 = .ok (.aload_n 0, 1) := dk_42 (dk_at dksX6_closeOf_3 15 rfl rfl)
theorem dX6_closeOf_86 : decode cX6_closeOf 86 = .ok (.getfield 25, 3) := dk_180 0 25 (dk_at dksX6_closeOf_3 16 rfl rfl)
theorem dX6_closeOf_89 : decode cX6_closeOf 89 = .ok (.iload_n 1, 1) := dk_27 (dk_at dksX6_closeOf_3 19 rfl rfl)
theorem dX6_closeOf_90 : decode cX6_closeOf 90 = .ok (.aaload, 1) := dk_50 (dk_at dksX6_closeOf_3 20 rfl rfl)
theorem dX6_closeOf_91 : decode cX6_closeOf 91 = .ok (.aload_n 0, 1) := dk_42 (dk_at dksX6_closeOf_3 21 rfl rfl)
theorem dX6_closeOf_92 : decode cX6_closeOf 92 = .ok (.getfield 105, 3) := dk_180 0 105 (dk_at dksX6_closeOf_4 0 rfl rfl)
theorem dX6_closeOf_95 : decode cX6_closeOf 95 = .ok (.iaload, 1) := dk_46 (dk_at dksX6_closeOf_4 3 rfl rfl)
theorem dX6_closeOf_96 : decode cX6_closeOf 96 = .ok (.bipush (-2), 2) := dk_16 254 (dk_at dksX6_closeOf_4 4 rfl rfl)
theorem dX6_closeOf_98 : decode cX6_closeOf 98 = .ok (.invokevirtual 297, 3) := dk_182 1 41 (dk_at dksX6_closeOf_4 6 rfl rfl)
theorem dX6_closeOf_101 : decode cX6_closeOf 101 = .ok (.return_, 1) := dk_177 (dk_at dksX6_closeOf_4 9 rfl rfl)
abbrev cX6_provisionalOf : ByteArray := prog_3_method_13_code
def yX6_provisionalOf : MethodName := ⟨RX6, "provisionalOf", "(II)I"⟩
def dkwX6_provisionalOf_4 : List UInt8 := [50, 28, 7, 108, 4, 100, 46, 172]
abbrev dktX6_provisionalOf_4 : List UInt8 := dkwX6_provisionalOf_4 ++ []
def dkwX6_provisionalOf_3 : List UInt8 := [180, 0, 255, 42, 180, 0, 3, 180, 0, 75, 180, 0, 234, 184, 1, 2, 167, 0, 15, 42, 180, 0, 28, 27]
abbrev dktX6_provisionalOf_3 : List UInt8 := dkwX6_provisionalOf_3 ++ dktX6_provisionalOf_4
def dkwX6_provisionalOf_2 : List UInt8 := [160, 0, 17, 42, 27, 42, 180, 0, 17, 27, 50, 28, 50, 182, 0, 248, 172, 28, 7, 162, 0, 23, 45]
abbrev dktX6_provisionalOf_2 : List UInt8 := dkwX6_provisionalOf_2 ++ dktX6_provisionalOf_3
def dkwX6_provisionalOf_1 : List UInt8 := [27, 182, 0, 85, 78, 45, 180, 0, 252, 153, 0, 16, 28, 7, 162, 0, 25, 45, 180, 0, 255, 2]
abbrev dktX6_provisionalOf_1 : List UInt8 := dkwX6_provisionalOf_1 ++ dktX6_provisionalOf_2
def dkwX6_provisionalOf_0 : List UInt8 := [28, 42, 180, 0, 105, 162, 0, 12, 42, 180, 0, 22, 27, 50, 28, 46, 172, 42, 180, 0, 3, 180, 0, 75]
abbrev dktX6_provisionalOf_0 : List UInt8 := dkwX6_provisionalOf_0 ++ dktX6_provisionalOf_1
theorem dksX6_provisionalOf_0 : cX6_provisionalOf.data.toList.drop 0 = dktX6_provisionalOf_0 := by decide +kernel
theorem dksX6_provisionalOf_1 : cX6_provisionalOf.data.toList.drop 24 = dktX6_provisionalOf_1 := dk_seg dksX6_provisionalOf_0 24 rfl rfl
theorem dksX6_provisionalOf_2 : cX6_provisionalOf.data.toList.drop 46 = dktX6_provisionalOf_2 := dk_seg dksX6_provisionalOf_1 22 rfl rfl
theorem dksX6_provisionalOf_3 : cX6_provisionalOf.data.toList.drop 69 = dktX6_provisionalOf_3 := dk_seg dksX6_provisionalOf_2 23 rfl rfl
theorem dksX6_provisionalOf_4 : cX6_provisionalOf.data.toList.drop 93 = dktX6_provisionalOf_4 := dk_seg dksX6_provisionalOf_3 24 rfl rfl
theorem dX6_provisionalOf_0 : decode cX6_provisionalOf 0 = .ok (.iload_n 2, 1) := dk_28 (dk_at dksX6_provisionalOf_0 0 rfl rfl)
theorem dX6_provisionalOf_1 : decode cX6_provisionalOf 1 = .ok (.aload_n 0, 1) := dk_42 (dk_at dksX6_provisionalOf_0 1 rfl rfl)
theorem dX6_provisionalOf_2 : decode cX6_provisionalOf 2 = .ok (.getfield 105, 3) := dk_180 0 105 (dk_at dksX6_provisionalOf_0 2 rfl rfl)
theorem dX6_provisionalOf_5 : decode cX6_provisionalOf 5 = .ok (.if_icmp .ge 12, 3) := dk_162 0 12 (dk_at dksX6_provisionalOf_0 5 rfl rfl)
theorem dX6_provisionalOf_8 : decode cX6_provisionalOf 8 = .ok (.aload_n 0, 1) := dk_42 (dk_at dksX6_provisionalOf_0 8 rfl rfl)
theorem dX6_provisionalOf_9 : decode cX6_provisionalOf 9 = .ok (.getfield 22, 3) := dk_180 0 22 (dk_at dksX6_provisionalOf_0 9 rfl rfl)
theorem dX6_provisionalOf_12 : decode cX6_provisionalOf 12 = .ok (.iload_n 1, 1) := dk_27 (dk_at dksX6_provisionalOf_0 12 rfl rfl)
theorem dX6_provisionalOf_13 : decode cX6_provisionalOf 13 = .ok (.aaload, 1) := dk_50 (dk_at dksX6_provisionalOf_0 13 rfl rfl)
theorem dX6_provisionalOf_14 : decode cX6_provisionalOf 14 = .ok (.iload_n 2, 1) := dk_28 (dk_at dksX6_provisionalOf_0 14 rfl rfl)
theorem dX6_provisionalOf_15 : decode cX6_provisionalOf 15 = .ok (.iaload, 1) := dk_46 (dk_at dksX6_provisionalOf_0 15 rfl rfl)
theorem dX6_provisionalOf_16 : decode cX6_provisionalOf 16 = .ok (.ireturn, 1) := dk_172 (dk_at dksX6_provisionalOf_0 16 rfl rfl)
theorem dX6_provisionalOf_17 : decode cX6_provisionalOf 17 = .ok (.aload_n 0, 1) := dk_42 (dk_at dksX6_provisionalOf_0 17 rfl rfl)
theorem dX6_provisionalOf_18 : decode cX6_provisionalOf 18 = .ok (.getfield 3, 3) := dk_180 0 3 (dk_at dksX6_provisionalOf_0 18 rfl rfl)
theorem dX6_provisionalOf_21 : decode cX6_provisionalOf 21 = .ok (.getfield 75, 3) := dk_180 0 75 (dk_at dksX6_provisionalOf_0 21 rfl rfl)
theorem dX6_provisionalOf_24 : decode cX6_provisionalOf 24 = .ok (.iload_n 1, 1) := dk_27 (dk_at dksX6_provisionalOf_1 0 rfl rfl)
theorem dX6_provisionalOf_25 : decode cX6_provisionalOf 25 = .ok (.invokevirtual 85, 3) := dk_182 0 85 (dk_at dksX6_provisionalOf_1 1 rfl rfl)
theorem dX6_provisionalOf_28 : decode cX6_provisionalOf 28 = .ok (.astore_n 3, 1) := dk_78 (dk_at dksX6_provisionalOf_1 4 rfl rfl)
theorem dX6_provisionalOf_29 : decode cX6_provisionalOf 29 = .ok (.aload_n 3, 1) := dk_45 (dk_at dksX6_provisionalOf_1 5 rfl rfl)
theorem dX6_provisionalOf_30 : decode cX6_provisionalOf 30 = .ok (.getfield 252, 3) := dk_180 0 252 (dk_at dksX6_provisionalOf_1 6 rfl rfl)
theorem dX6_provisionalOf_33 : decode cX6_provisionalOf 33 = .ok (.ifCond .eq 16, 3) := dk_153 0 16 (dk_at dksX6_provisionalOf_1 9 rfl rfl)
theorem dX6_provisionalOf_36 : decode cX6_provisionalOf 36 = .ok (.iload_n 2, 1) := dk_28 (dk_at dksX6_provisionalOf_1 12 rfl rfl)
theorem dX6_provisionalOf_37 : decode cX6_provisionalOf 37 = .ok (.iconst 4, 1) := dk_7 (dk_at dksX6_provisionalOf_1 13 rfl rfl)
theorem dX6_provisionalOf_38 : decode cX6_provisionalOf 38 = .ok (.if_icmp .ge 25, 3) := dk_162 0 25 (dk_at dksX6_provisionalOf_1 14 rfl rfl)
theorem dX6_provisionalOf_41 : decode cX6_provisionalOf 41 = .ok (.aload_n 3, 1) := dk_45 (dk_at dksX6_provisionalOf_1 17 rfl rfl)
theorem dX6_provisionalOf_42 : decode cX6_provisionalOf 42 = .ok (.getfield 255, 3) := dk_180 0 255 (dk_at dksX6_provisionalOf_1 18 rfl rfl)
theorem dX6_provisionalOf_45 : decode cX6_provisionalOf 45 = .ok (.iconst (-1), 1) := dk_2 (dk_at dksX6_provisionalOf_1 21 rfl rfl)
theorem dX6_provisionalOf_46 : decode cX6_provisionalOf 46 = .ok (.if_icmp .ne 17, 3) := dk_160 0 17 (dk_at dksX6_provisionalOf_2 0 rfl rfl)
theorem dX6_provisionalOf_49 : decode cX6_provisionalOf 49 = .ok (.aload_n 0, 1) := dk_42 (dk_at dksX6_provisionalOf_2 3 rfl rfl)
theorem dX6_provisionalOf_50 : decode cX6_provisionalOf 50 = .ok (.iload_n 1, 1) := dk_27 (dk_at dksX6_provisionalOf_2 4 rfl rfl)
theorem dX6_provisionalOf_51 : decode cX6_provisionalOf 51 = .ok (.aload_n 0, 1) := dk_42 (dk_at dksX6_provisionalOf_2 5 rfl rfl)
theorem dX6_provisionalOf_52 : decode cX6_provisionalOf 52 = .ok (.getfield 17, 3) := dk_180 0 17 (dk_at dksX6_provisionalOf_2 6 rfl rfl)
theorem dX6_provisionalOf_55 : decode cX6_provisionalOf 55 = .ok (.iload_n 1, 1) := dk_27 (dk_at dksX6_provisionalOf_2 9 rfl rfl)
theorem dX6_provisionalOf_56 : decode cX6_provisionalOf 56 = .ok (.aaload, 1) := dk_50 (dk_at dksX6_provisionalOf_2 10 rfl rfl)
theorem dX6_provisionalOf_57 : decode cX6_provisionalOf 57 = .ok (.iload_n 2, 1) := dk_28 (dk_at dksX6_provisionalOf_2 11 rfl rfl)
theorem dX6_provisionalOf_58 : decode cX6_provisionalOf 58 = .ok (.aaload, 1) := dk_50 (dk_at dksX6_provisionalOf_2 12 rfl rfl)
theorem dX6_provisionalOf_59 : decode cX6_provisionalOf 59 = .ok (.invokevirtual 248, 3) := dk_182 0 248 (dk_at dksX6_provisionalOf_2 13 rfl rfl)
theorem dX6_provisionalOf_62 : decode cX6_provisionalOf 62 = .ok (.ireturn, 1) := dk_172 (dk_at dksX6_provisionalOf_2 16 rfl rfl)
theorem dX6_provisionalOf_63 : decode cX6_provisionalOf 63 = .ok (.iload_n 2, 1) := dk_28 (dk_at dksX6_provisionalOf_2 17 rfl rfl)
theorem dX6_provisionalOf_64 : decode cX6_provisionalOf 64 = .ok (.iconst 4, 1) := dk_7 (dk_at dksX6_provisionalOf_2 18 rfl rfl)
theorem dX6_provisionalOf_65 : decode cX6_provisionalOf 65 = .ok (.if_icmp .ge 23, 3) := dk_162 0 23 (dk_at dksX6_provisionalOf_2 19 rfl rfl)
theorem dX6_provisionalOf_68 : decode cX6_provisionalOf 68 = .ok (.aload_n 3, 1) := dk_45 (dk_at dksX6_provisionalOf_2 22 rfl rfl)
theorem dX6_provisionalOf_69 : decode cX6_provisionalOf 69 = .ok (.getfield 255, 3) := dk_180 0 255 (dk_at dksX6_provisionalOf_3 0 rfl rfl)
theorem dX6_provisionalOf_72 : decode cX6_provisionalOf 72 = .ok (.aload_n 0, 1) := dk_42 (dk_at dksX6_provisionalOf_3 3 rfl rfl)
theorem dX6_provisionalOf_73 : decode cX6_provisionalOf 73 = .ok (.getfield 3, 3) := dk_180 0 3 (dk_at dksX6_provisionalOf_3 4 rfl rfl)
theorem dX6_provisionalOf_76 : decode cX6_provisionalOf 76 = .ok (.getfield 75, 3) := dk_180 0 75 (dk_at dksX6_provisionalOf_3 7 rfl rfl)
theorem dX6_provisionalOf_79 : decode cX6_provisionalOf 79 = .ok (.getfield 234, 3) := dk_180 0 234 (dk_at dksX6_provisionalOf_3 10 rfl rfl)
theorem dX6_provisionalOf_82 : decode cX6_provisionalOf 82 = .ok (.invokestatic 258, 3) := dk_184 1 2 (dk_at dksX6_provisionalOf_3 13 rfl rfl)
theorem dX6_provisionalOf_85 : decode cX6_provisionalOf 85 = .ok (.goto 15, 3) := dk_167 0 15 (dk_at dksX6_provisionalOf_3 16 rfl rfl)
theorem dX6_provisionalOf_88 : decode cX6_provisionalOf 88 = .ok (.aload_n 0, 1) := dk_42 (dk_at dksX6_provisionalOf_3 19 rfl rfl)
theorem dX6_provisionalOf_89 : decode cX6_provisionalOf 89 = .ok (.getfield 28, 3) := dk_180 0 28 (dk_at dksX6_provisionalOf_3 20 rfl rfl)
theorem dX6_provisionalOf_92 : decode cX6_provisionalOf 92 = .ok (.iload_n 1, 1) := dk_27 (dk_at dksX6_provisionalOf_3 23 rfl rfl)
theorem dX6_provisionalOf_93 : decode cX6_provisionalOf 93 = .ok (.aaload, 1) := dk_50 (dk_at dksX6_provisionalOf_4 0 rfl rfl)
theorem dX6_provisionalOf_94 : decode cX6_provisionalOf 94 = .ok (.iload_n 2, 1) := dk_28 (dk_at dksX6_provisionalOf_4 1 rfl rfl)
theorem dX6_provisionalOf_95 : decode cX6_provisionalOf 95 = .ok (.iconst 4, 1) := dk_7 (dk_at dksX6_provisionalOf_4 2 rfl rfl)
theorem dX6_provisionalOf_96 : decode cX6_provisionalOf 96 = .ok (.idiv, 1) := dk_108 (dk_at dksX6_provisionalOf_4 3 rfl rfl)
theorem dX6_provisionalOf_97 : decode cX6_provisionalOf 97 = .ok (.iconst 1, 1) := dk_4 (dk_at dksX6_provisionalOf_4 4 rfl rfl)
theorem dX6_provisionalOf_98 : decode cX6_provisionalOf 98 = .ok (.isub, 1) := dk_100 (dk_at dksX6_provisionalOf_4 5 rfl rfl)
theorem dX6_provisionalOf_99 : decode cX6_provisionalOf 99 = .ok (.iaload, 1) := dk_46 (dk_at dksX6_provisionalOf_4 6 rfl rfl)
theorem dX6_provisionalOf_100 : decode cX6_provisionalOf 100 = .ok (.ireturn, 1) := dk_172 (dk_at dksX6_provisionalOf_4 7 rfl rfl)
abbrev cX6_fractionBy : ByteArray := prog_3_method_11_code
def yX6_fractionBy : MethodName := ⟨RX6, "fractionBy", "(ILExemptDesk$Sums;)I"⟩
def dkwX6_fractionBy_2 : List UInt8 := [180, 0, 3, 180, 0, 75, 180, 0, 234, 42, 182, 0, 237, 182, 0, 240, 172]
abbrev dktX6_fractionBy_2 : List UInt8 := dkwX6_fractionBy_2 ++ []
def dkwX6_fractionBy_1 : List UInt8 := [185, 0, 218, 2, 0, 192, 0, 232, 44, 42, 180, 0, 34, 27, 46, 42, 180, 0, 38, 27, 46, 42]
abbrev dktX6_fractionBy_1 : List UInt8 := dkwX6_fractionBy_1 ++ dktX6_fractionBy_2
def dkwX6_fractionBy_0 : List UInt8 := [42, 180, 0, 3, 180, 0, 226, 42, 180, 0, 3, 180, 0, 75, 27, 182, 0, 85, 180, 0, 229]
abbrev dktX6_fractionBy_0 : List UInt8 := dkwX6_fractionBy_0 ++ dktX6_fractionBy_1
theorem dksX6_fractionBy_0 : cX6_fractionBy.data.toList.drop 0 = dktX6_fractionBy_0 := by decide +kernel
theorem dksX6_fractionBy_1 : cX6_fractionBy.data.toList.drop 21 = dktX6_fractionBy_1 := dk_seg dksX6_fractionBy_0 21 rfl rfl
theorem dksX6_fractionBy_2 : cX6_fractionBy.data.toList.drop 43 = dktX6_fractionBy_2 := dk_seg dksX6_fractionBy_1 22 rfl rfl
theorem dX6_fractionBy_0 : decode cX6_fractionBy 0 = .ok (.aload_n 0, 1) := dk_42 (dk_at dksX6_fractionBy_0 0 rfl rfl)
theorem dX6_fractionBy_1 : decode cX6_fractionBy 1 = .ok (.getfield 3, 3) := dk_180 0 3 (dk_at dksX6_fractionBy_0 1 rfl rfl)
theorem dX6_fractionBy_4 : decode cX6_fractionBy 4 = .ok (.getfield 226, 3) := dk_180 0 226 (dk_at dksX6_fractionBy_0 4 rfl rfl)
theorem dX6_fractionBy_7 : decode cX6_fractionBy 7 = .ok (.aload_n 0, 1) := dk_42 (dk_at dksX6_fractionBy_0 7 rfl rfl)
theorem dX6_fractionBy_8 : decode cX6_fractionBy 8 = .ok (.getfield 3, 3) := dk_180 0 3 (dk_at dksX6_fractionBy_0 8 rfl rfl)
theorem dX6_fractionBy_11 : decode cX6_fractionBy 11 = .ok (.getfield 75, 3) := dk_180 0 75 (dk_at dksX6_fractionBy_0 11 rfl rfl)
theorem dX6_fractionBy_14 : decode cX6_fractionBy 14 = .ok (.iload_n 1, 1) := dk_27 (dk_at dksX6_fractionBy_0 14 rfl rfl)
theorem dX6_fractionBy_15 : decode cX6_fractionBy 15 = .ok (.invokevirtual 85, 3) := dk_182 0 85 (dk_at dksX6_fractionBy_0 15 rfl rfl)
theorem dX6_fractionBy_18 : decode cX6_fractionBy 18 = .ok (.getfield 229, 3) := dk_180 0 229 (dk_at dksX6_fractionBy_0 18 rfl rfl)
theorem dX6_fractionBy_21 : decode cX6_fractionBy 21 = .ok (.invokeinterface 218 2, 5) := by decide +kernel
theorem dX6_fractionBy_26 : decode cX6_fractionBy 26 = .ok (.checkcast 232, 3) := dk_192 0 232 (dk_at dksX6_fractionBy_1 5 rfl rfl)
theorem dX6_fractionBy_29 : decode cX6_fractionBy 29 = .ok (.aload_n 2, 1) := dk_44 (dk_at dksX6_fractionBy_1 8 rfl rfl)
theorem dX6_fractionBy_30 : decode cX6_fractionBy 30 = .ok (.aload_n 0, 1) := dk_42 (dk_at dksX6_fractionBy_1 9 rfl rfl)
theorem dX6_fractionBy_31 : decode cX6_fractionBy 31 = .ok (.getfield 34, 3) := dk_180 0 34 (dk_at dksX6_fractionBy_1 10 rfl rfl)
theorem dX6_fractionBy_34 : decode cX6_fractionBy 34 = .ok (.iload_n 1, 1) := dk_27 (dk_at dksX6_fractionBy_1 13 rfl rfl)
theorem dX6_fractionBy_35 : decode cX6_fractionBy 35 = .ok (.iaload, 1) := dk_46 (dk_at dksX6_fractionBy_1 14 rfl rfl)
theorem dX6_fractionBy_36 : decode cX6_fractionBy 36 = .ok (.aload_n 0, 1) := dk_42 (dk_at dksX6_fractionBy_1 15 rfl rfl)
theorem dX6_fractionBy_37 : decode cX6_fractionBy 37 = .ok (.getfield 38, 3) := dk_180 0 38 (dk_at dksX6_fractionBy_1 16 rfl rfl)
theorem dX6_fractionBy_40 : decode cX6_fractionBy 40 = .ok (.iload_n 1, 1) := dk_27 (dk_at dksX6_fractionBy_1 19 rfl rfl)
theorem dX6_fractionBy_41 : decode cX6_fractionBy 41 = .ok (.iaload, 1) := dk_46 (dk_at dksX6_fractionBy_1 20 rfl rfl)
theorem dX6_fractionBy_42 : decode cX6_fractionBy 42 = .ok (.aload_n 0, 1) := dk_42 (dk_at dksX6_fractionBy_1 21 rfl rfl)
theorem dX6_fractionBy_43 : decode cX6_fractionBy 43 = .ok (.getfield 3, 3) := dk_180 0 3 (dk_at dksX6_fractionBy_2 0 rfl rfl)
theorem dX6_fractionBy_46 : decode cX6_fractionBy 46 = .ok (.getfield 75, 3) := dk_180 0 75 (dk_at dksX6_fractionBy_2 3 rfl rfl)
theorem dX6_fractionBy_49 : decode cX6_fractionBy 49 = .ok (.getfield 234, 3) := dk_180 0 234 (dk_at dksX6_fractionBy_2 6 rfl rfl)
theorem dX6_fractionBy_52 : decode cX6_fractionBy 52 = .ok (.aload_n 0, 1) := dk_42 (dk_at dksX6_fractionBy_2 9 rfl rfl)
theorem dX6_fractionBy_53 : decode cX6_fractionBy 53 = .ok (.invokevirtual 237, 3) := dk_182 0 237 (dk_at dksX6_fractionBy_2 10 rfl rfl)
theorem dX6_fractionBy_56 : decode cX6_fractionBy 56 = .ok (.invokevirtual 240, 3) := dk_182 0 240 (dk_at dksX6_fractionBy_2 13 rfl rfl)
theorem dX6_fractionBy_59 : decode cX6_fractionBy 59 = .ok (.ireturn, 1) := dk_172 (dk_at dksX6_fractionBy_2 16 rfl rfl)
abbrev cX6_book : ByteArray := prog_3_method_15_code
def yX6_book : MethodName := ⟨RX6, "book", "(IIII)V"⟩
def dkwX6_book_2 : List UInt8 := [50, 28, 92, 46, 29, 96, 79, 42, 89, 180, 0, 108, 4, 96, 181, 0, 108, 177]
abbrev dktX6_book_2 : List UInt8 := dkwX6_book_2 ++ []
def dkwX6_book_1 : List UInt8 := [187, 0, 144, 89, 42, 180, 0, 105, 27, 28, 29, 21, 4, 183, 1, 19, 182, 1, 22, 42, 180, 0, 41, 27]
abbrev dktX6_book_1 : List UInt8 := dkwX6_book_1 ++ dktX6_book_2
def dkwX6_book_0 : List UInt8 := [42, 180, 0, 57, 182, 1, 15, 16, 40, 160, 0, 11, 42, 180, 0, 57, 182, 1, 16, 87, 42, 180, 0, 57]
abbrev dktX6_book_0 : List UInt8 := dkwX6_book_0 ++ dktX6_book_1
theorem dksX6_book_0 : cX6_book.data.toList.drop 0 = dktX6_book_0 := by decide +kernel
theorem dksX6_book_1 : cX6_book.data.toList.drop 24 = dktX6_book_1 := dk_seg dksX6_book_0 24 rfl rfl
theorem dksX6_book_2 : cX6_book.data.toList.drop 48 = dktX6_book_2 := dk_seg dksX6_book_1 24 rfl rfl
theorem dX6_book_0 : decode cX6_book 0 = .ok (.aload_n 0, 1) := dk_42 (dk_at dksX6_book_0 0 rfl rfl)
theorem dX6_book_1 : decode cX6_book 1 = .ok (.getfield 57, 3) := dk_180 0 57 (dk_at dksX6_book_0 1 rfl rfl)
theorem dX6_book_4 : decode cX6_book 4 = .ok (.invokevirtual 271, 3) := dk_182 1 15 (dk_at dksX6_book_0 4 rfl rfl)
theorem dX6_book_7 : decode cX6_book 7 = .ok (.bipush 40, 2) := dk_16 40 (dk_at dksX6_book_0 7 rfl rfl)
theorem dX6_book_9 : decode cX6_book 9 = .ok (.if_icmp .ne 11, 3) := dk_160 0 11 (dk_at dksX6_book_0 9 rfl rfl)
theorem dX6_book_12 : decode cX6_book 12 = .ok (.aload_n 0, 1) := dk_42 (dk_at dksX6_book_0 12 rfl rfl)
theorem dX6_book_13 : decode cX6_book 13 = .ok (.getfield 57, 3) := dk_180 0 57 (dk_at dksX6_book_0 13 rfl rfl)
theorem dX6_book_16 : decode cX6_book 16 = .ok (.invokevirtual 272, 3) := dk_182 1 16 (dk_at dksX6_book_0 16 rfl rfl)
theorem dX6_book_19 : decode cX6_book 19 = .ok (.pop, 1) := dk_87 (dk_at dksX6_book_0 19 rfl rfl)
theorem dX6_book_20 : decode cX6_book 20 = .ok (.aload_n 0, 1) := dk_42 (dk_at dksX6_book_0 20 rfl rfl)
theorem dX6_book_21 : decode cX6_book 21 = .ok (.getfield 57, 3) := dk_180 0 57 (dk_at dksX6_book_0 21 rfl rfl)
theorem dX6_book_24 : decode cX6_book 24 = .ok (.new 144, 3) := dk_187 0 144 (dk_at dksX6_book_1 0 rfl rfl)
theorem dX6_book_27 : decode cX6_book 27 = .ok (.dup, 1) := dk_89 (dk_at dksX6_book_1 3 rfl rfl)
theorem dX6_book_28 : decode cX6_book 28 = .ok (.aload_n 0, 1) := dk_42 (dk_at dksX6_book_1 4 rfl rfl)
theorem dX6_book_29 : decode cX6_book 29 = .ok (.getfield 105, 3) := dk_180 0 105 (dk_at dksX6_book_1 5 rfl rfl)
theorem dX6_book_32 : decode cX6_book 32 = .ok (.iload_n 1, 1) := dk_27 (dk_at dksX6_book_1 8 rfl rfl)
theorem dX6_book_33 : decode cX6_book 33 = .ok (.iload_n 2, 1) := dk_28 (dk_at dksX6_book_1 9 rfl rfl)
theorem dX6_book_34 : decode cX6_book 34 = .ok (.iload_n 3, 1) := dk_29 (dk_at dksX6_book_1 10 rfl rfl)
theorem dX6_book_35 : decode cX6_book 35 = .ok (.iload 4, 2) := dk_21 4 (dk_at dksX6_book_1 11 rfl rfl)
theorem dX6_book_37 : decode cX6_book 37 = .ok (.invokespecial 275, 3) := dk_183 1 19 (dk_at dksX6_book_1 13 rfl rfl)
theorem dX6_book_40 : decode cX6_book 40 = .ok (.invokevirtual 278, 3) := dk_182 1 22 (dk_at dksX6_book_1 16 rfl rfl)
theorem dX6_book_43 : decode cX6_book 43 = .ok (.aload_n 0, 1) := dk_42 (dk_at dksX6_book_1 19 rfl rfl)
theorem dX6_book_44 : decode cX6_book 44 = .ok (.getfield 41, 3) := dk_180 0 41 (dk_at dksX6_book_1 20 rfl rfl)
theorem dX6_book_47 : decode cX6_book 47 = .ok (.iload_n 1, 1) := dk_27 (dk_at dksX6_book_1 23 rfl rfl)
theorem dX6_book_48 : decode cX6_book 48 = .ok (.aaload, 1) := dk_50 (dk_at dksX6_book_2 0 rfl rfl)
theorem dX6_book_49 : decode cX6_book 49 = .ok (.iload_n 2, 1) := dk_28 (dk_at dksX6_book_2 1 rfl rfl)
theorem dX6_book_50 : decode cX6_book 50 = .ok (.dup2, 1) := dk_92 (dk_at dksX6_book_2 2 rfl rfl)
theorem dX6_book_51 : decode cX6_book 51 = .ok (.iaload, 1) := dk_46 (dk_at dksX6_book_2 3 rfl rfl)
theorem dX6_book_52 : decode cX6_book 52 = .ok (.iload_n 3, 1) := dk_29 (dk_at dksX6_book_2 4 rfl rfl)
theorem dX6_book_53 : decode cX6_book 53 = .ok (.iadd, 1) := dk_96 (dk_at dksX6_book_2 5 rfl rfl)
theorem dX6_book_54 : decode cX6_book 54 = .ok (.iastore, 1) := dk_79 (dk_at dksX6_book_2 6 rfl rfl)
theorem dX6_book_55 : decode cX6_book 55 = .ok (.aload_n 0, 1) := dk_42 (dk_at dksX6_book_2 7 rfl rfl)
theorem dX6_book_56 : decode cX6_book 56 = .ok (.dup, 1) := dk_89 (dk_at dksX6_book_2 8 rfl rfl)
theorem dX6_book_57 : decode cX6_book 57 = .ok (.getfield 108, 3) := dk_180 0 108 (dk_at dksX6_book_2 9 rfl rfl)
theorem dX6_book_60 : decode cX6_book 60 = .ok (.iconst 1, 1) := dk_4 (dk_at dksX6_book_2 12 rfl rfl)
theorem dX6_book_61 : decode cX6_book 61 = .ok (.iadd, 1) := dk_96 (dk_at dksX6_book_2 13 rfl rfl)
theorem dX6_book_62 : decode cX6_book 62 = .ok (.putfield 108, 3) := dk_181 0 108 (dk_at dksX6_book_2 14 rfl rfl)
theorem dX6_book_65 : decode cX6_book 65 = .ok (.return_, 1) := dk_177 (dk_at dksX6_book_2 17 rfl rfl)
abbrev cX6_closeYear : ByteArray := prog_3_method_19_code
def yX6_closeYear : MethodName := ⟨RX6, "closeYear", "()V"⟩
def dkwX6_closeYear_8 : List UInt8 := [185, 1, 57, 1, 0, 167, 255, 204, 177]
abbrev dktX6_closeYear_8 : List UInt8 := dkwX6_closeYear_8 ++ []
def dkwX6_closeYear_7 : List UInt8 := [45, 180, 0, 203, 154, 0, 6, 167, 255, 224, 42, 180, 0, 64, 45, 180, 1, 51, 182, 1, 54, 44]
abbrev dktX6_closeYear_7 : List UInt8 := dkwX6_closeYear_7 ++ dktX6_closeYear_8
def dkwX6_closeYear_6 : List UInt8 := [185, 0, 122, 1, 0, 153, 0, 49, 44, 185, 0, 128, 1, 0, 192, 0, 132, 78, 42, 45, 27, 182, 1, 47]
abbrev dktX6_closeYear_6 : List UInt8 := dkwX6_closeYear_6 ++ dktX6_closeYear_7
def dkwX6_closeYear_5 : List UInt8 := [28, 50, 27, 46, 16, 254, 182, 1, 41, 132, 2, 1, 167, 255, 136, 42, 180, 0, 51, 182, 0, 118, 77, 44]
abbrev dktX6_closeYear_5 : List UInt8 := dkwX6_closeYear_5 ++ dktX6_closeYear_6
def dkwX6_closeYear_4 : List UInt8 := [182, 1, 44, 100, 42, 180, 0, 25, 28, 50, 42, 180, 0, 105, 46, 100, 79, 42, 28, 4, 42, 180, 0, 31]
abbrev dktX6_closeYear_4 : List UInt8 := dkwX6_closeYear_4 ++ dktX6_closeYear_5
def dkwX6_closeYear_3 : List UInt8 := [180, 0, 234, 42, 182, 0, 237, 42, 180, 0, 3, 180, 0, 75, 180, 1, 8, 182, 1, 11, 42, 28, 27]
abbrev dktX6_closeYear_3 : List UInt8 := dkwX6_closeYear_3 ++ dktX6_closeYear_4
def dkwX6_closeYear_2 : List UInt8 := [27, 42, 28, 27, 182, 0, 244, 42, 180, 0, 28, 28, 50, 27, 46, 42, 180, 0, 3, 180, 0, 75]
abbrev dktX6_closeYear_2 : List UInt8 := dkwX6_closeYear_2 ++ dktX6_closeYear_3
def dkwX6_closeYear_1 : List UInt8 := [180, 0, 28, 28, 50, 27, 42, 28, 42, 28, 27, 182, 0, 244, 182, 0, 248, 79, 42, 180, 0, 31, 28, 50]
abbrev dktX6_closeYear_1 : List UInt8 := dkwX6_closeYear_1 ++ dktX6_closeYear_2
def dkwX6_closeYear_0 : List UInt8 := [42, 180, 0, 105, 7, 108, 60, 3, 61, 28, 42, 180, 0, 3, 180, 0, 75, 182, 0, 79, 162, 0, 112, 42]
abbrev dktX6_closeYear_0 : List UInt8 := dkwX6_closeYear_0 ++ dktX6_closeYear_1
theorem dksX6_closeYear_0 : cX6_closeYear.data.toList.drop 0 = dktX6_closeYear_0 := by decide +kernel
theorem dksX6_closeYear_1 : cX6_closeYear.data.toList.drop 24 = dktX6_closeYear_1 := dk_seg dksX6_closeYear_0 24 rfl rfl
theorem dksX6_closeYear_2 : cX6_closeYear.data.toList.drop 48 = dktX6_closeYear_2 := dk_seg dksX6_closeYear_1 24 rfl rfl
theorem dksX6_closeYear_3 : cX6_closeYear.data.toList.drop 70 = dktX6_closeYear_3 := dk_seg dksX6_closeYear_2 22 rfl rfl
theorem dksX6_closeYear_4 : cX6_closeYear.data.toList.drop 93 = dktX6_closeYear_4 := dk_seg dksX6_closeYear_3 23 rfl rfl
theorem dksX6_closeYear_5 : cX6_closeYear.data.toList.drop 117 = dktX6_closeYear_5 := dk_seg dksX6_closeYear_4 24 rfl rfl
theorem dksX6_closeYear_6 : cX6_closeYear.data.toList.drop 141 = dktX6_closeYear_6 := dk_seg dksX6_closeYear_5 24 rfl rfl
theorem dksX6_closeYear_7 : cX6_closeYear.data.toList.drop 165 = dktX6_closeYear_7 := dk_seg dksX6_closeYear_6 24 rfl rfl
theorem dksX6_closeYear_8 : cX6_closeYear.data.toList.drop 187 = dktX6_closeYear_8 := dk_seg dksX6_closeYear_7 22 rfl rfl
theorem dX6_closeYear_0 : decode cX6_closeYear 0 = .ok (.aload_n 0, 1) := dk_42 (dk_at dksX6_closeYear_0 0 rfl rfl)
theorem dX6_closeYear_1 : decode cX6_closeYear 1 = .ok (.getfield 105, 3) := dk_180 0 105 (dk_at dksX6_closeYear_0 1 rfl rfl)
theorem dX6_closeYear_4 : decode cX6_closeYear 4 = .ok (.iconst 4, 1) := dk_7 (dk_at dksX6_closeYear_0 4 rfl rfl)
theorem dX6_closeYear_5 : decode cX6_closeYear 5 = .ok (.idiv, 1) := dk_108 (dk_at dksX6_closeYear_0 5 rfl rfl)
theorem dX6_closeYear_6 : decode cX6_closeYear 6 = .ok (.istore_n 1, 1) := dk_60 (dk_at dksX6_closeYear_0 6 rfl rfl)
theorem dX6_closeYear_7 : decode cX6_closeYear 7 = .ok (.iconst 0, 1) := dk_3 (dk_at dksX6_closeYear_0 7 rfl rfl)
theorem dX6_closeYear_8 : decode cX6_closeYear 8 = .ok (.istore_n 2, 1) := dk_61 (dk_at dksX6_closeYear_0 8 rfl rfl)
theorem dX6_closeYear_9 : decode cX6_closeYear 9 = .ok (.iload_n 2, 1) := dk_28 (dk_at dksX6_closeYear_0 9 rfl rfl)
theorem dX6_closeYear_10 : decode cX6_closeYear 10 = .ok (.aload_n 0, 1) := dk_42 (dk_at dksX6_closeYear_0 10 rfl rfl)
theorem dX6_closeYear_11 : decode cX6_closeYear 11 = .ok (.getfield 3, 3) := dk_180 0 3 (dk_at dksX6_closeYear_0 11 rfl rfl)
theorem dX6_closeYear_14 : decode cX6_closeYear 14 = .ok (.getfield 75, 3) := dk_180 0 75 (dk_at dksX6_closeYear_0 14 rfl rfl)
theorem dX6_closeYear_17 : decode cX6_closeYear 17 = .ok (.invokevirtual 79, 3) := dk_182 0 79 (dk_at dksX6_closeYear_0 17 rfl rfl)
theorem dX6_closeYear_20 : decode cX6_closeYear 20 = .ok (.if_icmp .ge 112, 3) := dk_162 0 112 (dk_at dksX6_closeYear_0 20 rfl rfl)
theorem dX6_closeYear_23 : decode cX6_closeYear 23 = .ok (.aload_n 0, 1) := dk_42 (dk_at dksX6_closeYear_0 23 rfl rfl)
theorem dX6_closeYear_24 : decode cX6_closeYear 24 = .ok (.getfield 28, 3) := dk_180 0 28 (dk_at dksX6_closeYear_1 0 rfl rfl)
theorem dX6_closeYear_27 : decode cX6_closeYear 27 = .ok (.iload_n 2, 1) := dk_28 (dk_at dksX6_closeYear_1 3 rfl rfl)
theorem dX6_closeYear_28 : decode cX6_closeYear 28 = .ok (.aaload, 1) := dk_50 (dk_at dksX6_closeYear_1 4 rfl rfl)
theorem dX6_closeYear_29 : decode cX6_closeYear 29 = .ok (.iload_n 1, 1) := dk_27 (dk_at dksX6_closeYear_1 5 rfl rfl)
theorem dX6_closeYear_30 : decode cX6_closeYear 30 = .ok (.aload_n 0, 1) := dk_42 (dk_at dksX6_closeYear_1 6 rfl rfl)
theorem dX6_closeYear_31 : decode cX6_closeYear 31 = .ok (.iload_n 2, 1) := dk_28 (dk_at dksX6_closeYear_1 7 rfl rfl)
theorem dX6_closeYear_32 : decode cX6_closeYear 32 = .ok (.aload_n 0, 1) := dk_42 (dk_at dksX6_closeYear_1 8 rfl rfl)
theorem dX6_closeYear_33 : decode cX6_closeYear 33 = .ok (.iload_n 2, 1) := dk_28 (dk_at dksX6_closeYear_1 9 rfl rfl)
theorem dX6_closeYear_34 : decode cX6_closeYear 34 = .ok (.iload_n 1, 1) := dk_27 (dk_at dksX6_closeYear_1 10 rfl rfl)
theorem dX6_closeYear_35 : decode cX6_closeYear 35 = .ok (.invokevirtual 244, 3) := dk_182 0 244 (dk_at dksX6_closeYear_1 11 rfl rfl)
theorem dX6_closeYear_38 : decode cX6_closeYear 38 = .ok (.invokevirtual 248, 3) := dk_182 0 248 (dk_at dksX6_closeYear_1 14 rfl rfl)
theorem dX6_closeYear_41 : decode cX6_closeYear 41 = .ok (.iastore, 1) := dk_79 (dk_at dksX6_closeYear_1 17 rfl rfl)
theorem dX6_closeYear_42 : decode cX6_closeYear 42 = .ok (.aload_n 0, 1) := dk_42 (dk_at dksX6_closeYear_1 18 rfl rfl)
theorem dX6_closeYear_43 : decode cX6_closeYear 43 = .ok (.getfield 31, 3) := dk_180 0 31 (dk_at dksX6_closeYear_1 19 rfl rfl)
theorem dX6_closeYear_46 : decode cX6_closeYear 46 = .ok (.iload_n 2, 1) := dk_28 (dk_at dksX6_closeYear_1 22 rfl rfl)
theorem dX6_closeYear_47 : decode cX6_closeYear 47 = .ok (.aaload, 1) := dk_50 (dk_at dksX6_closeYear_1 23 rfl rfl)
theorem dX6_closeYear_48 : decode cX6_closeYear 48 = .ok (.iload_n 1, 1) := dk_27 (dk_at dksX6_closeYear_2 0 rfl rfl)
theorem dX6_closeYear_49 : decode cX6_closeYear 49 = .ok (.aload_n 0, 1) := dk_42 (dk_at dksX6_closeYear_2 1 rfl rfl)
theorem dX6_closeYear_50 : decode cX6_closeYear 50 = .ok (.iload_n 2, 1) := dk_28 (dk_at dksX6_closeYear_2 2 rfl rfl)
theorem dX6_closeYear_51 : decode cX6_closeYear 51 = .ok (.iload_n 1, 1) := dk_27 (dk_at dksX6_closeYear_2 3 rfl rfl)
theorem dX6_closeYear_52 : decode cX6_closeYear 52 = .ok (.invokevirtual 244, 3) := dk_182 0 244 (dk_at dksX6_closeYear_2 4 rfl rfl)
theorem dX6_closeYear_55 : decode cX6_closeYear 55 = .ok (.aload_n 0, 1) := dk_42 (dk_at dksX6_closeYear_2 7 rfl rfl)
theorem dX6_closeYear_56 : decode cX6_closeYear 56 = .ok (.getfield 28, 3) := dk_180 0 28 (dk_at dksX6_closeYear_2 8 rfl rfl)
theorem dX6_closeYear_59 : decode cX6_closeYear 59 = .ok (.iload_n 2, 1) := dk_28 (dk_at dksX6_closeYear_2 11 rfl rfl)
theorem dX6_closeYear_60 : decode cX6_closeYear 60 = .ok (.aaload, 1) := dk_50 (dk_at dksX6_closeYear_2 12 rfl rfl)
theorem dX6_closeYear_61 : decode cX6_closeYear 61 = .ok (.iload_n 1, 1) := dk_27 (dk_at dksX6_closeYear_2 13 rfl rfl)
theorem dX6_closeYear_62 : decode cX6_closeYear 62 = .ok (.iaload, 1) := dk_46 (dk_at dksX6_closeYear_2 14 rfl rfl)
theorem dX6_closeYear_63 : decode cX6_closeYear 63 = .ok (.aload_n 0, 1) := dk_42 (dk_at dksX6_closeYear_2 15 rfl rfl)
theorem dX6_closeYear_64 : decode cX6_closeYear 64 = .ok (.getfield 3, 3) := dk_180 0 3 (dk_at dksX6_closeYear_2 16 rfl rfl)
theorem dX6_closeYear_67 : decode cX6_closeYear 67 = .ok (.getfield 75, 3) := dk_180 0 75 (dk_at dksX6_closeYear_2 19 rfl rfl)
theorem dX6_closeYear_70 : decode cX6_closeYear 70 = .ok (.getfield 234, 3) := dk_180 0 234 (dk_at dksX6_closeYear_3 0 rfl rfl)
theorem dX6_closeYear_73 : decode cX6_closeYear 73 = .ok (.aload_n 0, 1) := dk_42 (dk_at dksX6_closeYear_3 3 rfl rfl)
theorem dX6_closeYear_74 : decode cX6_closeYear 74 = .ok (.invokevirtual 237, 3) := dk_182 0 237 (dk_at dksX6_closeYear_3 4 rfl rfl)
theorem dX6_closeYear_77 : decode cX6_closeYear 77 = .ok (.aload_n 0, 1) := dk_42 (dk_at dksX6_closeYear_3 7 rfl rfl)
theorem dX6_closeYear_78 : decode cX6_closeYear 78 = .ok (.getfield 3, 3) := dk_180 0 3 (dk_at dksX6_closeYear_3 8 rfl rfl)
theorem dX6_closeYear_81 : decode cX6_closeYear 81 = .ok (.getfield 75, 3) := dk_180 0 75 (dk_at dksX6_closeYear_3 11 rfl rfl)
theorem dX6_closeYear_84 : decode cX6_closeYear 84 = .ok (.getfield 264, 3) := dk_180 1 8 (dk_at dksX6_closeYear_3 14 rfl rfl)
theorem dX6_closeYear_87 : decode cX6_closeYear 87 = .ok (.invokevirtual 267, 3) := dk_182 1 11 (dk_at dksX6_closeYear_3 17 rfl rfl)
theorem dX6_closeYear_90 : decode cX6_closeYear 90 = .ok (.aload_n 0, 1) := dk_42 (dk_at dksX6_closeYear_3 20 rfl rfl)
theorem dX6_closeYear_91 : decode cX6_closeYear 91 = .ok (.iload_n 2, 1) := dk_28 (dk_at dksX6_closeYear_3 21 rfl rfl)
theorem dX6_closeYear_92 : decode cX6_closeYear 92 = .ok (.iload_n 1, 1) := dk_27 (dk_at dksX6_closeYear_3 22 rfl rfl)
theorem dX6_closeYear_93 : decode cX6_closeYear 93 = .ok (.invokevirtual 300, 3) := dk_182 1 44 (dk_at dksX6_closeYear_4 0 rfl rfl)
theorem dX6_closeYear_96 : decode cX6_closeYear 96 = .ok (.isub, 1) := dk_100 (dk_at dksX6_closeYear_4 3 rfl rfl)
theorem dX6_closeYear_97 : decode cX6_closeYear 97 = .ok (.aload_n 0, 1) := dk_42 (dk_at dksX6_closeYear_4 4 rfl rfl)
theorem dX6_closeYear_98 : decode cX6_closeYear 98 = .ok (.getfield 25, 3) := dk_180 0 25 (dk_at dksX6_closeYear_4 5 rfl rfl)
theorem dX6_closeYear_101 : decode cX6_closeYear 101 = .ok (.iload_n 2, 1) := dk_28 (dk_at dksX6_closeYear_4 8 rfl rfl)
theorem dX6_closeYear_102 : decode cX6_closeYear 102 = .ok (.aaload, 1) := dk_50 (dk_at dksX6_closeYear_4 9 rfl rfl)
theorem dX6_closeYear_103 : decode cX6_closeYear 103 = .ok (.aload_n 0, 1) := dk_42 (dk_at dksX6_closeYear_4 10 rfl rfl)
theorem dX6_closeYear_104 : decode cX6_closeYear 104 = .ok (.getfield 105, 3) := dk_180 0 105 (dk_at dksX6_closeYear_4 11 rfl rfl)
theorem dX6_closeYear_107 : decode cX6_closeYear 107 = .ok (.iaload, 1) := dk_46 (dk_at dksX6_closeYear_4 14 rfl rfl)
theorem dX6_closeYear_108 : decode cX6_closeYear 108 = .ok (.isub, 1) := dk_100 (dk_at dksX6_closeYear_4 15 rfl rfl)
theorem dX6_closeYear_109 : decode cX6_closeYear 109 = .ok (.iastore, 1) := dk_79 (dk_at dksX6_closeYear_4 16 rfl rfl)
theorem dX6_closeYear_110 : decode cX6_closeYear 110 = .ok (.aload_n 0, 1) := dk_42 (dk_at dksX6_closeYear_4 17 rfl rfl)
theorem dX6_closeYear_111 : decode cX6_closeYear 111 = .ok (.iload_n 2, 1) := dk_28 (dk_at dksX6_closeYear_4 18 rfl rfl)
theorem dX6_closeYear_112 : decode cX6_closeYear 112 = .ok (.iconst 1, 1) := dk_4 (dk_at dksX6_closeYear_4 19 rfl rfl)
theorem dX6_closeYear_113 : decode cX6_closeYear 113 = .ok (.aload_n 0, 1) := dk_42 (dk_at dksX6_closeYear_4 20 rfl rfl)
theorem dX6_closeYear_114 : decode cX6_closeYear 114 = .ok (.getfield 31, 3) := dk_180 0 31 (dk_at dksX6_closeYear_4 21 rfl rfl)
theorem dX6_closeYear_117 : decode cX6_closeYear 117 = .ok (.iload_n 2, 1) := dk_28 (dk_at dksX6_closeYear_5 0 rfl rfl)
theorem dX6_closeYear_118 : decode cX6_closeYear 118 = .ok (.aaload, 1) := dk_50 (dk_at dksX6_closeYear_5 1 rfl rfl)
theorem dX6_closeYear_119 : decode cX6_closeYear 119 = .ok (.iload_n 1, 1) := dk_27 (dk_at dksX6_closeYear_5 2 rfl rfl)
theorem dX6_closeYear_120 : decode cX6_closeYear 120 = .ok (.iaload, 1) := dk_46 (dk_at dksX6_closeYear_5 3 rfl rfl)
theorem dX6_closeYear_121 : decode cX6_closeYear 121 = .ok (.bipush (-2), 2) := dk_16 254 (dk_at dksX6_closeYear_5 4 rfl rfl)
theorem dX6_closeYear_123 : decode cX6_closeYear 123 = .ok (.invokevirtual 297, 3) := dk_182 1 41 (dk_at dksX6_closeYear_5 6 rfl rfl)
theorem dX6_closeYear_126 : decode cX6_closeYear 126 = .ok (.iinc 2 1, 3) := dk_132 2 1 (dk_at dksX6_closeYear_5 9 rfl rfl)
theorem dX6_closeYear_129 : decode cX6_closeYear 129 = .ok (.goto (-120), 3) := dk_167 255 136 (dk_at dksX6_closeYear_5 12 rfl rfl)
theorem dX6_closeYear_132 : decode cX6_closeYear 132 = .ok (.aload_n 0, 1) := dk_42 (dk_at dksX6_closeYear_5 15 rfl rfl)
theorem dX6_closeYear_133 : decode cX6_closeYear 133 = .ok (.getfield 51, 3) := dk_180 0 51 (dk_at dksX6_closeYear_5 16 rfl rfl)
theorem dX6_closeYear_136 : decode cX6_closeYear 136 = .ok (.invokevirtual 118, 3) := dk_182 0 118 (dk_at dksX6_closeYear_5 19 rfl rfl)
theorem dX6_closeYear_139 : decode cX6_closeYear 139 = .ok (.astore_n 2, 1) := dk_77 (dk_at dksX6_closeYear_5 22 rfl rfl)
theorem dX6_closeYear_140 : decode cX6_closeYear 140 = .ok (.aload_n 2, 1) := dk_44 (dk_at dksX6_closeYear_5 23 rfl rfl)
theorem dX6_closeYear_141 : decode cX6_closeYear 141 = .ok (.invokeinterface 122 1, 5) := by decide +kernel
theorem dX6_closeYear_146 : decode cX6_closeYear 146 = .ok (.ifCond .eq 49, 3) := dk_153 0 49 (dk_at dksX6_closeYear_6 5 rfl rfl)
theorem dX6_closeYear_149 : decode cX6_closeYear 149 = .ok (.aload_n 2, 1) := dk_44 (dk_at dksX6_closeYear_6 8 rfl rfl)
theorem dX6_closeYear_150 : decode cX6_closeYear 150 = .ok (.invokeinterface 128 1, 5) := by decide +kernel
theorem dX6_closeYear_155 : decode cX6_closeYear 155 = .ok (.checkcast 132, 3) := dk_192 0 132 (dk_at dksX6_closeYear_6 14 rfl rfl)
theorem dX6_closeYear_158 : decode cX6_closeYear 158 = .ok (.astore_n 3, 1) := dk_78 (dk_at dksX6_closeYear_6 17 rfl rfl)
theorem dX6_closeYear_159 : decode cX6_closeYear 159 = .ok (.aload_n 0, 1) := dk_42 (dk_at dksX6_closeYear_6 18 rfl rfl)
theorem dX6_closeYear_160 : decode cX6_closeYear 160 = .ok (.aload_n 3, 1) := dk_45 (dk_at dksX6_closeYear_6 19 rfl rfl)
theorem dX6_closeYear_161 : decode cX6_closeYear 161 = .ok (.iload_n 1, 1) := dk_27 (dk_at dksX6_closeYear_6 20 rfl rfl)
theorem dX6_closeYear_162 : decode cX6_closeYear 162 = .ok (.invokevirtual 303, 3) := dk_182 1 47 (dk_at dksX6_closeYear_6 21 rfl rfl)
theorem dX6_closeYear_165 : decode cX6_closeYear 165 = .ok (.aload_n 3, 1) := dk_45 (dk_at dksX6_closeYear_7 0 rfl rfl)
theorem dX6_closeYear_166 : decode cX6_closeYear 166 = .ok (.getfield 203, 3) := dk_180 0 203 (dk_at dksX6_closeYear_7 1 rfl rfl)
theorem dX6_closeYear_169 : decode cX6_closeYear 169 = .ok (.ifCond .ne 6, 3) := dk_154 0 6 (dk_at dksX6_closeYear_7 4 rfl rfl)
theorem dX6_closeYear_172 : decode cX6_closeYear 172 = .ok (.goto (-32), 3) := dk_167 255 224 (dk_at dksX6_closeYear_7 7 rfl rfl)
theorem dX6_closeYear_175 : decode cX6_closeYear 175 = .ok (.aload_n 0, 1) := dk_42 (dk_at dksX6_closeYear_7 10 rfl rfl)
theorem dX6_closeYear_176 : decode cX6_closeYear 176 = .ok (.getfield 64, 3) := dk_180 0 64 (dk_at dksX6_closeYear_7 11 rfl rfl)
theorem dX6_closeYear_179 : decode cX6_closeYear 179 = .ok (.aload_n 3, 1) := dk_45 (dk_at dksX6_closeYear_7 14 rfl rfl)
theorem dX6_closeYear_180 : decode cX6_closeYear 180 = .ok (.getfield 307, 3) := dk_180 1 51 (dk_at dksX6_closeYear_7 15 rfl rfl)
theorem dX6_closeYear_183 : decode cX6_closeYear 183 = .ok (.invokevirtual 310, 3) := dk_182 1 54 (dk_at dksX6_closeYear_7 18 rfl rfl)
theorem dX6_closeYear_186 : decode cX6_closeYear 186 = .ok (.aload_n 2, 1) := dk_44 (dk_at dksX6_closeYear_7 21 rfl rfl)
theorem dX6_closeYear_187 : decode cX6_closeYear 187 = .ok (.invokeinterface 313 1, 5) := by decide +kernel
theorem dX6_closeYear_192 : decode cX6_closeYear 192 = .ok (.goto (-52), 3) := dk_167 255 204 (dk_at dksX6_closeYear_8 5 rfl rfl)
theorem dX6_closeYear_195 : decode cX6_closeYear 195 = .ok (.return_, 1) := dk_177 (dk_at dksX6_closeYear_8 8 rfl rfl)
abbrev cX6_ofYear : ByteArray := prog_3_method_10_code
def yX6_ofYear : MethodName := ⟨RX6, "ofYear", "(II)LExemptDesk$Sums;"⟩
def dkwX6_ofYear_1 : List UInt8 := [42, 180, 0, 17, 27, 50, 29, 50, 182, 0, 224, 132, 3, 1, 167, 255, 229, 42, 180, 0, 71, 176]
abbrev dktX6_ofYear_1 : List UInt8 := dkwX6_ofYear_1 ++ []
def dkwX6_ofYear_0 : List UInt8 := [42, 180, 0, 71, 182, 0, 223, 7, 28, 104, 62, 29, 7, 28, 104, 7, 96, 162, 0, 24, 42, 180, 0, 71]
abbrev dktX6_ofYear_0 : List UInt8 := dkwX6_ofYear_0 ++ dktX6_ofYear_1
theorem dksX6_ofYear_0 : cX6_ofYear.data.toList.drop 0 = dktX6_ofYear_0 := by decide +kernel
theorem dksX6_ofYear_1 : cX6_ofYear.data.toList.drop 24 = dktX6_ofYear_1 := dk_seg dksX6_ofYear_0 24 rfl rfl
theorem dX6_ofYear_0 : decode cX6_ofYear 0 = .ok (.aload_n 0, 1) := dk_42 (dk_at dksX6_ofYear_0 0 rfl rfl)
theorem dX6_ofYear_1 : decode cX6_ofYear 1 = .ok (.getfield 71, 3) := dk_180 0 71 (dk_at dksX6_ofYear_0 1 rfl rfl)
theorem dX6_ofYear_4 : decode cX6_ofYear 4 = .ok (.invokevirtual 223, 3) := dk_182 0 223 (dk_at dksX6_ofYear_0 4 rfl rfl)
theorem dX6_ofYear_7 : decode cX6_ofYear 7 = .ok (.iconst 4, 1) := dk_7 (dk_at dksX6_ofYear_0 7 rfl rfl)
theorem dX6_ofYear_8 : decode cX6_ofYear 8 = .ok (.iload_n 2, 1) := dk_28 (dk_at dksX6_ofYear_0 8 rfl rfl)
theorem dX6_ofYear_9 : decode cX6_ofYear 9 = .ok (.imul, 1) := dk_104 (dk_at dksX6_ofYear_0 9 rfl rfl)
theorem dX6_ofYear_10 : decode cX6_ofYear 10 = .ok (.istore_n 3, 1) := dk_62 (dk_at dksX6_ofYear_0 10 rfl rfl)
theorem dX6_ofYear_11 : decode cX6_ofYear 11 = .ok (.iload_n 3, 1) := dk_29 (dk_at dksX6_ofYear_0 11 rfl rfl)
theorem dX6_ofYear_12 : decode cX6_ofYear 12 = .ok (.iconst 4, 1) := dk_7 (dk_at dksX6_ofYear_0 12 rfl rfl)
theorem dX6_ofYear_13 : decode cX6_ofYear 13 = .ok (.iload_n 2, 1) := dk_28 (dk_at dksX6_ofYear_0 13 rfl rfl)
theorem dX6_ofYear_14 : decode cX6_ofYear 14 = .ok (.imul, 1) := dk_104 (dk_at dksX6_ofYear_0 14 rfl rfl)
theorem dX6_ofYear_15 : decode cX6_ofYear 15 = .ok (.iconst 4, 1) := dk_7 (dk_at dksX6_ofYear_0 15 rfl rfl)
theorem dX6_ofYear_16 : decode cX6_ofYear 16 = .ok (.iadd, 1) := dk_96 (dk_at dksX6_ofYear_0 16 rfl rfl)
theorem dX6_ofYear_17 : decode cX6_ofYear 17 = .ok (.if_icmp .ge 24, 3) := dk_162 0 24 (dk_at dksX6_ofYear_0 17 rfl rfl)
theorem dX6_ofYear_20 : decode cX6_ofYear 20 = .ok (.aload_n 0, 1) := dk_42 (dk_at dksX6_ofYear_0 20 rfl rfl)
theorem dX6_ofYear_21 : decode cX6_ofYear 21 = .ok (.getfield 71, 3) := dk_180 0 71 (dk_at dksX6_ofYear_0 21 rfl rfl)
theorem dX6_ofYear_24 : decode cX6_ofYear 24 = .ok (.aload_n 0, 1) := dk_42 (dk_at dksX6_ofYear_1 0 rfl rfl)
theorem dX6_ofYear_25 : decode cX6_ofYear 25 = .ok (.getfield 17, 3) := dk_180 0 17 (dk_at dksX6_ofYear_1 1 rfl rfl)
theorem dX6_ofYear_28 : decode cX6_ofYear 28 = .ok (.iload_n 1, 1) := dk_27 (dk_at dksX6_ofYear_1 4 rfl rfl)
theorem dX6_ofYear_29 : decode cX6_ofYear 29 = .ok (.aaload, 1) := dk_50 (dk_at dksX6_ofYear_1 5 rfl rfl)
theorem dX6_ofYear_30 : decode cX6_ofYear 30 = .ok (.iload_n 3, 1) := dk_29 (dk_at dksX6_ofYear_1 6 rfl rfl)
theorem dX6_ofYear_31 : decode cX6_ofYear 31 = .ok (.aaload, 1) := dk_50 (dk_at dksX6_ofYear_1 7 rfl rfl)
theorem dX6_ofYear_32 : decode cX6_ofYear 32 = .ok (.invokevirtual 224, 3) := dk_182 0 224 (dk_at dksX6_ofYear_1 8 rfl rfl)
theorem dX6_ofYear_35 : decode cX6_ofYear 35 = .ok (.iinc 3 1, 3) := dk_132 3 1 (dk_at dksX6_ofYear_1 11 rfl rfl)
theorem dX6_ofYear_38 : decode cX6_ofYear 38 = .ok (.goto (-27), 3) := dk_167 255 229 (dk_at dksX6_ofYear_1 14 rfl rfl)
theorem dX6_ofYear_41 : decode cX6_ofYear 41 = .ok (.aload_n 0, 1) := dk_42 (dk_at dksX6_ofYear_1 17 rfl rfl)
theorem dX6_ofYear_42 : decode cX6_ofYear 42 = .ok (.getfield 71, 3) := dk_180 0 71 (dk_at dksX6_ofYear_1 18 rfl rfl)
theorem dX6_ofYear_45 : decode cX6_ofYear 45 = .ok (.areturn, 1) := dk_176 (dk_at dksX6_ofYear_1 21 rfl rfl)
abbrev cX6_bookedIn : ByteArray := prog_3_method_18_code
def yX6_bookedIn : MethodName := ⟨RX6, "bookedIn", "(II)I"⟩
def dkwX6_bookedIn_1 : List UInt8 := [29, 42, 180, 0, 25, 27, 50, 21, 4, 46, 96, 62, 132, 4, 1, 167, 255, 224, 29, 172]
abbrev dktX6_bookedIn_1 : List UInt8 := dkwX6_bookedIn_1 ++ []
def dkwX6_bookedIn_0 : List UInt8 := [3, 62, 7, 28, 104, 54, 4, 21, 4, 42, 180, 0, 105, 7, 28, 104, 7, 96, 184, 1, 2, 162, 0, 21]
abbrev dktX6_bookedIn_0 : List UInt8 := dkwX6_bookedIn_0 ++ dktX6_bookedIn_1
theorem dksX6_bookedIn_0 : cX6_bookedIn.data.toList.drop 0 = dktX6_bookedIn_0 := by decide +kernel
theorem dksX6_bookedIn_1 : cX6_bookedIn.data.toList.drop 24 = dktX6_bookedIn_1 := dk_seg dksX6_bookedIn_0 24 rfl rfl
theorem dX6_bookedIn_0 : decode cX6_bookedIn 0 = .ok (.iconst 0, 1) := dk_3 (dk_at dksX6_bookedIn_0 0 rfl rfl)
theorem dX6_bookedIn_1 : decode cX6_bookedIn 1 = .ok (.istore_n 3, 1) := dk_62 (dk_at dksX6_bookedIn_0 1 rfl rfl)
theorem dX6_bookedIn_2 : decode cX6_bookedIn 2 = .ok (.iconst 4, 1) := dk_7 (dk_at dksX6_bookedIn_0 2 rfl rfl)
theorem dX6_bookedIn_3 : decode cX6_bookedIn 3 = .ok (.iload_n 2, 1) := dk_28 (dk_at dksX6_bookedIn_0 3 rfl rfl)
theorem dX6_bookedIn_4 : decode cX6_bookedIn 4 = .ok (.imul, 1) := dk_104 (dk_at dksX6_bookedIn_0 4 rfl rfl)
theorem dX6_bookedIn_5 : decode cX6_bookedIn 5 = .ok (.istore 4, 2) := dk_54 4 (dk_at dksX6_bookedIn_0 5 rfl rfl)
theorem dX6_bookedIn_7 : decode cX6_bookedIn 7 = .ok (.iload 4, 2) := dk_21 4 (dk_at dksX6_bookedIn_0 7 rfl rfl)
theorem dX6_bookedIn_9 : decode cX6_bookedIn 9 = .ok (.aload_n 0, 1) := dk_42 (dk_at dksX6_bookedIn_0 9 rfl rfl)
theorem dX6_bookedIn_10 : decode cX6_bookedIn 10 = .ok (.getfield 105, 3) := dk_180 0 105 (dk_at dksX6_bookedIn_0 10 rfl rfl)
theorem dX6_bookedIn_13 : decode cX6_bookedIn 13 = .ok (.iconst 4, 1) := dk_7 (dk_at dksX6_bookedIn_0 13 rfl rfl)
theorem dX6_bookedIn_14 : decode cX6_bookedIn 14 = .ok (.iload_n 2, 1) := dk_28 (dk_at dksX6_bookedIn_0 14 rfl rfl)
theorem dX6_bookedIn_15 : decode cX6_bookedIn 15 = .ok (.imul, 1) := dk_104 (dk_at dksX6_bookedIn_0 15 rfl rfl)
theorem dX6_bookedIn_16 : decode cX6_bookedIn 16 = .ok (.iconst 4, 1) := dk_7 (dk_at dksX6_bookedIn_0 16 rfl rfl)
theorem dX6_bookedIn_17 : decode cX6_bookedIn 17 = .ok (.iadd, 1) := dk_96 (dk_at dksX6_bookedIn_0 17 rfl rfl)
theorem dX6_bookedIn_18 : decode cX6_bookedIn 18 = .ok (.invokestatic 258, 3) := dk_184 1 2 (dk_at dksX6_bookedIn_0 18 rfl rfl)
theorem dX6_bookedIn_21 : decode cX6_bookedIn 21 = .ok (.if_icmp .ge 21, 3) := dk_162 0 21 (dk_at dksX6_bookedIn_0 21 rfl rfl)
theorem dX6_bookedIn_24 : decode cX6_bookedIn 24 = .ok (.iload_n 3, 1) := dk_29 (dk_at dksX6_bookedIn_1 0 rfl rfl)
theorem dX6_bookedIn_25 : decode cX6_bookedIn 25 = .ok (.aload_n 0, 1) := dk_42 (dk_at dksX6_bookedIn_1 1 rfl rfl)
theorem dX6_bookedIn_26 : decode cX6_bookedIn 26 = .ok (.getfield 25, 3) := dk_180 0 25 (dk_at dksX6_bookedIn_1 2 rfl rfl)
theorem dX6_bookedIn_29 : decode cX6_bookedIn 29 = .ok (.iload_n 1, 1) := dk_27 (dk_at dksX6_bookedIn_1 5 rfl rfl)
theorem dX6_bookedIn_30 : decode cX6_bookedIn 30 = .ok (.aaload, 1) := dk_50 (dk_at dksX6_bookedIn_1 6 rfl rfl)
theorem dX6_bookedIn_31 : decode cX6_bookedIn 31 = .ok (.iload 4, 2) := dk_21 4 (dk_at dksX6_bookedIn_1 7 rfl rfl)
theorem dX6_bookedIn_33 : decode cX6_bookedIn 33 = .ok (.iaload, 1) := dk_46 (dk_at dksX6_bookedIn_1 9 rfl rfl)
theorem dX6_bookedIn_34 : decode cX6_bookedIn 34 = .ok (.iadd, 1) := dk_96 (dk_at dksX6_bookedIn_1 10 rfl rfl)
theorem dX6_bookedIn_35 : decode cX6_bookedIn 35 = .ok (.istore_n 3, 1) := dk_62 (dk_at dksX6_bookedIn_1 11 rfl rfl)
theorem dX6_bookedIn_36 : decode cX6_bookedIn 36 = .ok (.iinc 4 1, 3) := dk_132 4 1 (dk_at dksX6_bookedIn_1 12 rfl rfl)
theorem dX6_bookedIn_39 : decode cX6_bookedIn 39 = .ok (.goto (-32), 3) := dk_167 255 224 (dk_at dksX6_bookedIn_1 15 rfl rfl)
theorem dX6_bookedIn_42 : decode cX6_bookedIn 42 = .ok (.iload_n 3, 1) := dk_29 (dk_at dksX6_bookedIn_1 18 rfl rfl)
theorem dX6_bookedIn_43 : decode cX6_bookedIn 43 = .ok (.ireturn, 1) := dk_172 (dk_at dksX6_bookedIn_1 19 rfl rfl)
abbrev cX6_closeInterval : ByteArray := prog_3_method_20_code
def yX6_closeInterval : MethodName := ⟨RX6, "closeInterval", "(LExemptDesk$Asset;I)V"⟩
def dkwX6_closeInterval_10 : List UInt8 := [96, 43, 180, 1, 104, 79, 177]
abbrev dktX6_closeInterval_10 : List UInt8 := dkwX6_closeInterval_10 ++ []
def dkwX6_closeInterval_9 : List UInt8 := [181, 0, 203, 43, 180, 0, 203, 154, 0, 23, 28, 4, 96, 16, 16, 162, 0, 15, 43, 180, 1, 63, 28, 4]
abbrev dktX6_closeInterval_9 : List UInt8 := dkwX6_closeInterval_9 ++ dktX6_closeInterval_10
def dkwX6_closeInterval_8 : List UInt8 := [43, 43, 180, 1, 86, 2, 160, 0, 13, 29, 43, 180, 1, 93, 4, 100, 160, 0, 7, 4, 167, 0, 4, 3]
abbrev dktX6_closeInterval_8 : List UInt8 := dkwX6_closeInterval_8 ++ dktX6_closeInterval_9
def dkwX6_closeInterval_7 : List UInt8 := [180, 1, 98, 184, 1, 2, 181, 1, 98, 42, 21, 4, 6, 43, 180, 1, 98, 43, 180, 1, 51, 182, 1, 41]
abbrev dktX6_closeInterval_7 : List UInt8 := dkwX6_closeInterval_7 ++ dktX6_closeInterval_8
def dkwX6_closeInterval_6 : List UInt8 := [29, 100, 182, 1, 94, 181, 1, 98, 43, 180, 1, 101, 2, 159, 0, 18, 43, 43, 180, 1, 101, 43]
abbrev dktX6_closeInterval_6 : List UInt8 := dkwX6_closeInterval_6 ++ dktX6_closeInterval_7
def dkwX6_closeInterval_5 : List UInt8 := [10, 184, 1, 89, 153, 0, 66, 43, 42, 43, 43, 180, 1, 86, 43, 180, 1, 76, 43, 180, 1, 93, 4, 100]
abbrev dktX6_closeInterval_5 : List UInt8 := dkwX6_closeInterval_5 ++ dktX6_closeInterval_6
def dkwX6_closeInterval_4 : List UInt8 := [79, 42, 21, 4, 5, 43, 180, 1, 79, 28, 46, 43, 180, 1, 51, 182, 1, 41, 43, 180, 1, 86, 133, 9]
abbrev dktX6_closeInterval_4 : List UInt8 := dkwX6_closeInterval_4 ++ dktX6_closeInterval_5
def dkwX6_closeInterval_3 : List UInt8 := [46, 43, 180, 1, 76, 4, 42, 180, 0, 3, 180, 0, 75, 180, 0, 234, 42, 182, 0, 237, 182, 1, 82, 136]
abbrev dktX6_closeInterval_3 : List UInt8 := dkwX6_closeInterval_3 ++ dktX6_closeInterval_4
def dkwX6_closeInterval_2 : List UInt8 := [43, 43, 180, 1, 69, 28, 46, 181, 1, 76, 167, 0, 56, 43, 180, 1, 79, 28, 43, 43, 180, 1, 69, 28]
abbrev dktX6_closeInterval_2 : List UInt8 := dkwX6_closeInterval_2 ++ dktX6_closeInterval_3
def dkwX6_closeInterval_1 : List UInt8 := [180, 1, 69, 28, 42, 43, 42, 180, 0, 28, 21, 4, 50, 28, 46, 7, 182, 1, 72, 79, 29, 154, 0, 16]
abbrev dktX6_closeInterval_1 : List UInt8 := dkwX6_closeInterval_1 ++ dktX6_closeInterval_2
def dkwX6_closeInterval_0 : List UInt8 := [28, 43, 180, 1, 60, 100, 62, 43, 180, 1, 63, 28, 46, 54, 4, 43, 29, 4, 96, 181, 1, 66, 43]
abbrev dktX6_closeInterval_0 : List UInt8 := dkwX6_closeInterval_0 ++ dktX6_closeInterval_1
theorem dksX6_closeInterval_0 : cX6_closeInterval.data.toList.drop 0 = dktX6_closeInterval_0 := by decide +kernel
theorem dksX6_closeInterval_1 : cX6_closeInterval.data.toList.drop 23 = dktX6_closeInterval_1 := dk_seg dksX6_closeInterval_0 23 rfl rfl
theorem dksX6_closeInterval_2 : cX6_closeInterval.data.toList.drop 47 = dktX6_closeInterval_2 := dk_seg dksX6_closeInterval_1 24 rfl rfl
theorem dksX6_closeInterval_3 : cX6_closeInterval.data.toList.drop 71 = dktX6_closeInterval_3 := dk_seg dksX6_closeInterval_2 24 rfl rfl
theorem dksX6_closeInterval_4 : cX6_closeInterval.data.toList.drop 95 = dktX6_closeInterval_4 := dk_seg dksX6_closeInterval_3 24 rfl rfl
theorem dksX6_closeInterval_5 : cX6_closeInterval.data.toList.drop 119 = dktX6_closeInterval_5 := dk_seg dksX6_closeInterval_4 24 rfl rfl
theorem dksX6_closeInterval_6 : cX6_closeInterval.data.toList.drop 143 = dktX6_closeInterval_6 := dk_seg dksX6_closeInterval_5 24 rfl rfl
theorem dksX6_closeInterval_7 : cX6_closeInterval.data.toList.drop 165 = dktX6_closeInterval_7 := dk_seg dksX6_closeInterval_6 22 rfl rfl
theorem dksX6_closeInterval_8 : cX6_closeInterval.data.toList.drop 189 = dktX6_closeInterval_8 := dk_seg dksX6_closeInterval_7 24 rfl rfl
theorem dksX6_closeInterval_9 : cX6_closeInterval.data.toList.drop 213 = dktX6_closeInterval_9 := dk_seg dksX6_closeInterval_8 24 rfl rfl
theorem dksX6_closeInterval_10 : cX6_closeInterval.data.toList.drop 237 = dktX6_closeInterval_10 := dk_seg dksX6_closeInterval_9 24 rfl rfl
theorem dX6_closeInterval_0 : decode cX6_closeInterval 0 = .ok (.iload_n 2, 1) := dk_28 (dk_at dksX6_closeInterval_0 0 rfl rfl)
theorem dX6_closeInterval_1 : decode cX6_closeInterval 1 = .ok (.aload_n 1, 1) := dk_43 (dk_at dksX6_closeInterval_0 1 rfl rfl)
theorem dX6_closeInterval_2 : decode cX6_closeInterval 2 = .ok (.getfield 316, 3) := dk_180 1 60 (dk_at dksX6_closeInterval_0 2 rfl rfl)
theorem dX6_closeInterval_5 : decode cX6_closeInterval 5 = .ok (.isub, 1) := dk_100 (dk_at dksX6_closeInterval_0 5 rfl rfl)
theorem dX6_closeInterval_6 : decode cX6_closeInterval 6 = .ok (.istore_n 3, 1) := dk_62 (dk_at dksX6_closeInterval_0 6 rfl rfl)
theorem dX6_closeInterval_7 : decode cX6_closeInterval 7 = .ok (.aload_n 1, 1) := dk_43 (dk_at dksX6_closeInterval_0 7 rfl rfl)
theorem dX6_closeInterval_8 : decode cX6_closeInterval 8 = .ok (.getfield 319, 3) := dk_180 1 63 (dk_at dksX6_closeInterval_0 8 rfl rfl)
theorem dX6_closeInterval_11 : decode cX6_closeInterval 11 = .ok (.iload_n 2, 1) := dk_28 (dk_at dksX6_closeInterval_0 11 rfl rfl)
theorem dX6_closeInterval_12 : decode cX6_closeInterval 12 = .ok (.iaload, 1) := dk_46 (dk_at dksX6_closeInterval_0 12 rfl rfl)
theorem dX6_closeInterval_13 : decode cX6_closeInterval 13 = .ok (.istore 4, 2) := dk_54 4 (dk_at dksX6_closeInterval_0 13 rfl rfl)
theorem dX6_closeInterval_15 : decode cX6_closeInterval 15 = .ok (.aload_n 1, 1) := dk_43 (dk_at dksX6_closeInterval_0 15 rfl rfl)
theorem dX6_closeInterval_16 : decode cX6_closeInterval 16 = .ok (.iload_n 3, 1) := dk_29 (dk_at dksX6_closeInterval_0 16 rfl rfl)
theorem dX6_closeInterval_17 : decode cX6_closeInterval 17 = .ok (.iconst 1, 1) := dk_4 (dk_at dksX6_closeInterval_0 17 rfl rfl)
theorem dX6_closeInterval_18 : decode cX6_closeInterval 18 = .ok (.iadd, 1) := dk_96 (dk_at dksX6_closeInterval_0 18 rfl rfl)
theorem dX6_closeInterval_19 : decode cX6_closeInterval 19 = .ok (.putfield 322, 3) := dk_181 1 66 (dk_at dksX6_closeInterval_0 19 rfl rfl)
theorem dX6_closeInterval_22 : decode cX6_closeInterval 22 = .ok (.aload_n 1, 1) := dk_43 (dk_at dksX6_closeInterval_0 22 rfl rfl)
theorem dX6_closeInterval_23 : decode cX6_closeInterval 23 = .ok (.getfield 325, 3) := dk_180 1 69 (dk_at dksX6_closeInterval_1 0 rfl rfl)
theorem dX6_closeInterval_26 : decode cX6_closeInterval 26 = .ok (.iload_n 2, 1) := dk_28 (dk_at dksX6_closeInterval_1 3 rfl rfl)
theorem dX6_closeInterval_27 : decode cX6_closeInterval 27 = .ok (.aload_n 0, 1) := dk_42 (dk_at dksX6_closeInterval_1 4 rfl rfl)
theorem dX6_closeInterval_28 : decode cX6_closeInterval 28 = .ok (.aload_n 1, 1) := dk_43 (dk_at dksX6_closeInterval_1 5 rfl rfl)
theorem dX6_closeInterval_29 : decode cX6_closeInterval 29 = .ok (.aload_n 0, 1) := dk_42 (dk_at dksX6_closeInterval_1 6 rfl rfl)
theorem dX6_closeInterval_30 : decode cX6_closeInterval 30 = .ok (.getfield 28, 3) := dk_180 0 28 (dk_at dksX6_closeInterval_1 7 rfl rfl)
theorem dX6_closeInterval_33 : decode cX6_closeInterval 33 = .ok (.iload 4, 2) := dk_21 4 (dk_at dksX6_closeInterval_1 10 rfl rfl)
theorem dX6_closeInterval_35 : decode cX6_closeInterval 35 = .ok (.aaload, 1) := dk_50 (dk_at dksX6_closeInterval_1 12 rfl rfl)
theorem dX6_closeInterval_36 : decode cX6_closeInterval 36 = .ok (.iload_n 2, 1) := dk_28 (dk_at dksX6_closeInterval_1 13 rfl rfl)
theorem dX6_closeInterval_37 : decode cX6_closeInterval 37 = .ok (.iaload, 1) := dk_46 (dk_at dksX6_closeInterval_1 14 rfl rfl)
theorem dX6_closeInterval_38 : decode cX6_closeInterval 38 = .ok (.iconst 4, 1) := dk_7 (dk_at dksX6_closeInterval_1 15 rfl rfl)
theorem dX6_closeInterval_39 : decode cX6_closeInterval 39 = .ok (.invokevirtual 328, 3) := dk_182 1 72 (dk_at dksX6_closeInterval_1 16 rfl rfl)
theorem dX6_closeInterval_42 : decode cX6_closeInterval 42 = .ok (.iastore, 1) := dk_79 (dk_at dksX6_closeInterval_1 19 rfl rfl)
theorem dX6_closeInterval_43 : decode cX6_closeInterval 43 = .ok (.iload_n 3, 1) := dk_29 (dk_at dksX6_closeInterval_1 20 rfl rfl)
theorem dX6_closeInterval_44 : decode cX6_closeInterval 44 = .ok (.ifCond .ne 16, 3) := dk_154 0 16 (dk_at dksX6_closeInterval_1 21 rfl rfl)
theorem dX6_closeInterval_47 : decode cX6_closeInterval 47 = .ok (.aload_n 1, 1) := dk_43 (dk_at dksX6_closeInterval_2 0 rfl rfl)
theorem dX6_closeInterval_48 : decode cX6_closeInterval 48 = .ok (.aload_n 1, 1) := dk_43 (dk_at dksX6_closeInterval_2 1 rfl rfl)
theorem dX6_closeInterval_49 : decode cX6_closeInterval 49 = .ok (.getfield 325, 3) := dk_180 1 69 (dk_at dksX6_closeInterval_2 2 rfl rfl)
theorem dX6_closeInterval_52 : decode cX6_closeInterval 52 = .ok (.iload_n 2, 1) := dk_28 (dk_at dksX6_closeInterval_2 5 rfl rfl)
theorem dX6_closeInterval_53 : decode cX6_closeInterval 53 = .ok (.iaload, 1) := dk_46 (dk_at dksX6_closeInterval_2 6 rfl rfl)
theorem dX6_closeInterval_54 : decode cX6_closeInterval 54 = .ok (.putfield 332, 3) := dk_181 1 76 (dk_at dksX6_closeInterval_2 7 rfl rfl)
theorem dX6_closeInterval_57 : decode cX6_closeInterval 57 = .ok (.goto 56, 3) := dk_167 0 56 (dk_at dksX6_closeInterval_2 10 rfl rfl)
theorem dX6_closeInterval_60 : decode cX6_closeInterval 60 = .ok (.aload_n 1, 1) := dk_43 (dk_at dksX6_closeInterval_2 13 rfl rfl)
theorem dX6_closeInterval_61 : decode cX6_closeInterval 61 = .ok (.getfield 335, 3) := dk_180 1 79 (dk_at dksX6_closeInterval_2 14 rfl rfl)
theorem dX6_closeInterval_64 : decode cX6_closeInterval 64 = .ok (.iload_n 2, 1) := dk_28 (dk_at dksX6_closeInterval_2 17 rfl rfl)
theorem dX6_closeInterval_65 : decode cX6_closeInterval 65 = .ok (.aload_n 1, 1) := dk_43 (dk_at dksX6_closeInterval_2 18 rfl rfl)
theorem dX6_closeInterval_66 : decode cX6_closeInterval 66 = .ok (.aload_n 1, 1) := dk_43 (dk_at dksX6_closeInterval_2 19 rfl rfl)
theorem dX6_closeInterval_67 : decode cX6_closeInterval 67 = .ok (.getfield 325, 3) := dk_180 1 69 (dk_at dksX6_closeInterval_2 20 rfl rfl)
theorem dX6_closeInterval_70 : decode cX6_closeInterval 70 = .ok (.iload_n 2, 1) := dk_28 (dk_at dksX6_closeInterval_2 23 rfl rfl)
theorem dX6_closeInterval_71 : decode cX6_closeInterval 71 = .ok (.iaload, 1) := dk_46 (dk_at dksX6_closeInterval_3 0 rfl rfl)
theorem dX6_closeInterval_72 : decode cX6_closeInterval 72 = .ok (.aload_n 1, 1) := dk_43 (dk_at dksX6_closeInterval_3 1 rfl rfl)
theorem dX6_closeInterval_73 : decode cX6_closeInterval 73 = .ok (.getfield 332, 3) := dk_180 1 76 (dk_at dksX6_closeInterval_3 2 rfl rfl)
theorem dX6_closeInterval_76 : decode cX6_closeInterval 76 = .ok (.iconst 1, 1) := dk_4 (dk_at dksX6_closeInterval_3 5 rfl rfl)
theorem dX6_closeInterval_77 : decode cX6_closeInterval 77 = .ok (.aload_n 0, 1) := dk_42 (dk_at dksX6_closeInterval_3 6 rfl rfl)
theorem dX6_closeInterval_78 : decode cX6_closeInterval 78 = .ok (.getfield 3, 3) := dk_180 0 3 (dk_at dksX6_closeInterval_3 7 rfl rfl)
theorem dX6_closeInterval_81 : decode cX6_closeInterval 81 = .ok (.getfield 75, 3) := dk_180 0 75 (dk_at dksX6_closeInterval_3 10 rfl rfl)
theorem dX6_closeInterval_84 : decode cX6_closeInterval 84 = .ok (.getfield 234, 3) := dk_180 0 234 (dk_at dksX6_closeInterval_3 13 rfl rfl)
theorem dX6_closeInterval_87 : decode cX6_closeInterval 87 = .ok (.aload_n 0, 1) := dk_42 (dk_at dksX6_closeInterval_3 16 rfl rfl)
theorem dX6_closeInterval_88 : decode cX6_closeInterval 88 = .ok (.invokevirtual 237, 3) := dk_182 0 237 (dk_at dksX6_closeInterval_3 17 rfl rfl)
theorem dX6_closeInterval_91 : decode cX6_closeInterval 91 = .ok (.invokevirtual 338, 3) := dk_182 1 82 (dk_at dksX6_closeInterval_3 20 rfl rfl)
theorem dX6_closeInterval_94 : decode cX6_closeInterval 94 = .ok (.l2i, 1) := dk_136 (dk_at dksX6_closeInterval_3 23 rfl rfl)
theorem dX6_closeInterval_95 : decode cX6_closeInterval 95 = .ok (.iastore, 1) := dk_79 (dk_at dksX6_closeInterval_4 0 rfl rfl)
theorem dX6_closeInterval_96 : decode cX6_closeInterval 96 = .ok (.aload_n 0, 1) := dk_42 (dk_at dksX6_closeInterval_4 1 rfl rfl)
theorem dX6_closeInterval_97 : decode cX6_closeInterval 97 = .ok (.iload 4, 2) := dk_21 4 (dk_at dksX6_closeInterval_4 2 rfl rfl)
theorem dX6_closeInterval_99 : decode cX6_closeInterval 99 = .ok (.iconst 2, 1) := dk_5 (dk_at dksX6_closeInterval_4 4 rfl rfl)
theorem dX6_closeInterval_100 : decode cX6_closeInterval 100 = .ok (.aload_n 1, 1) := dk_43 (dk_at dksX6_closeInterval_4 5 rfl rfl)
theorem dX6_closeInterval_101 : decode cX6_closeInterval 101 = .ok (.getfield 335, 3) := dk_180 1 79 (dk_at dksX6_closeInterval_4 6 rfl rfl)
theorem dX6_closeInterval_104 : decode cX6_closeInterval 104 = .ok (.iload_n 2, 1) := dk_28 (dk_at dksX6_closeInterval_4 9 rfl rfl)
theorem dX6_closeInterval_105 : decode cX6_closeInterval 105 = .ok (.iaload, 1) := dk_46 (dk_at dksX6_closeInterval_4 10 rfl rfl)
theorem dX6_closeInterval_106 : decode cX6_closeInterval 106 = .ok (.aload_n 1, 1) := dk_43 (dk_at dksX6_closeInterval_4 11 rfl rfl)
theorem dX6_closeInterval_107 : decode cX6_closeInterval 107 = .ok (.getfield 307, 3) := dk_180 1 51 (dk_at dksX6_closeInterval_4 12 rfl rfl)
theorem dX6_closeInterval_110 : decode cX6_closeInterval 110 = .ok (.invokevirtual 297, 3) := dk_182 1 41 (dk_at dksX6_closeInterval_4 15 rfl rfl)
theorem dX6_closeInterval_113 : decode cX6_closeInterval 113 = .ok (.aload_n 1, 1) := dk_43 (dk_at dksX6_closeInterval_4 18 rfl rfl)
theorem dX6_closeInterval_114 : decode cX6_closeInterval 114 = .ok (.getfield 342, 3) := dk_180 1 86 (dk_at dksX6_closeInterval_4 19 rfl rfl)
theorem dX6_closeInterval_117 : decode cX6_closeInterval 117 = .ok (.i2l, 1) := dk_133 (dk_at dksX6_closeInterval_4 22 rfl rfl)
theorem dX6_closeInterval_118 : decode cX6_closeInterval 118 = .ok (.lconst 0, 1) := dk_9 (dk_at dksX6_closeInterval_4 23 rfl rfl)
theorem dX6_closeInterval_119 : decode cX6_closeInterval 119 = .ok (.lconst 1, 1) := dk_10 (dk_at dksX6_closeInterval_5 0 rfl rfl)
theorem dX6_closeInterval_120 : decode cX6_closeInterval 120 = .ok (.invokestatic 345, 3) := dk_184 1 89 (dk_at dksX6_closeInterval_5 1 rfl rfl)
theorem dX6_closeInterval_123 : decode cX6_closeInterval 123 = .ok (.ifCond .eq 66, 3) := dk_153 0 66 (dk_at dksX6_closeInterval_5 4 rfl rfl)
theorem dX6_closeInterval_126 : decode cX6_closeInterval 126 = .ok (.aload_n 1, 1) := dk_43 (dk_at dksX6_closeInterval_5 7 rfl rfl)
theorem dX6_closeInterval_127 : decode cX6_closeInterval 127 = .ok (.aload_n 0, 1) := dk_42 (dk_at dksX6_closeInterval_5 8 rfl rfl)
theorem dX6_closeInterval_128 : decode cX6_closeInterval 128 = .ok (.aload_n 1, 1) := dk_43 (dk_at dksX6_closeInterval_5 9 rfl rfl)
theorem dX6_closeInterval_129 : decode cX6_closeInterval 129 = .ok (.aload_n 1, 1) := dk_43 (dk_at dksX6_closeInterval_5 10 rfl rfl)
theorem dX6_closeInterval_130 : decode cX6_closeInterval 130 = .ok (.getfield 342, 3) := dk_180 1 86 (dk_at dksX6_closeInterval_5 11 rfl rfl)
theorem dX6_closeInterval_133 : decode cX6_closeInterval 133 = .ok (.aload_n 1, 1) := dk_43 (dk_at dksX6_closeInterval_5 14 rfl rfl)
theorem dX6_closeInterval_134 : decode cX6_closeInterval 134 = .ok (.getfield 332, 3) := dk_180 1 76 (dk_at dksX6_closeInterval_5 15 rfl rfl)
theorem dX6_closeInterval_137 : decode cX6_closeInterval 137 = .ok (.aload_n 1, 1) := dk_43 (dk_at dksX6_closeInterval_5 18 rfl rfl)
theorem dX6_closeInterval_138 : decode cX6_closeInterval 138 = .ok (.getfield 349, 3) := dk_180 1 93 (dk_at dksX6_closeInterval_5 19 rfl rfl)
theorem dX6_closeInterval_141 : decode cX6_closeInterval 141 = .ok (.iconst 1, 1) := dk_4 (dk_at dksX6_closeInterval_5 22 rfl rfl)
theorem dX6_closeInterval_142 : decode cX6_closeInterval 142 = .ok (.isub, 1) := dk_100 (dk_at dksX6_closeInterval_5 23 rfl rfl)
theorem dX6_closeInterval_143 : decode cX6_closeInterval 143 = .ok (.iload_n 3, 1) := dk_29 (dk_at dksX6_closeInterval_6 0 rfl rfl)
theorem dX6_closeInterval_144 : decode cX6_closeInterval 144 = .ok (.isub, 1) := dk_100 (dk_at dksX6_closeInterval_6 1 rfl rfl)
theorem dX6_closeInterval_145 : decode cX6_closeInterval 145 = .ok (.invokevirtual 350, 3) := dk_182 1 94 (dk_at dksX6_closeInterval_6 2 rfl rfl)
theorem dX6_closeInterval_148 : decode cX6_closeInterval 148 = .ok (.putfield 354, 3) := dk_181 1 98 (dk_at dksX6_closeInterval_6 5 rfl rfl)
theorem dX6_closeInterval_151 : decode cX6_closeInterval 151 = .ok (.aload_n 1, 1) := dk_43 (dk_at dksX6_closeInterval_6 8 rfl rfl)
theorem dX6_closeInterval_152 : decode cX6_closeInterval 152 = .ok (.getfield 357, 3) := dk_180 1 101 (dk_at dksX6_closeInterval_6 9 rfl rfl)
theorem dX6_closeInterval_155 : decode cX6_closeInterval 155 = .ok (.iconst (-1), 1) := dk_2 (dk_at dksX6_closeInterval_6 12 rfl rfl)
theorem dX6_closeInterval_156 : decode cX6_closeInterval 156 = .ok (.if_icmp .eq 18, 3) := dk_159 0 18 (dk_at dksX6_closeInterval_6 13 rfl rfl)
theorem dX6_closeInterval_159 : decode cX6_closeInterval 159 = .ok (.aload_n 1, 1) := dk_43 (dk_at dksX6_closeInterval_6 16 rfl rfl)
theorem dX6_closeInterval_160 : decode cX6_closeInterval 160 = .ok (.aload_n 1, 1) := dk_43 (dk_at dksX6_closeInterval_6 17 rfl rfl)
theorem dX6_closeInterval_161 : decode cX6_closeInterval 161 = .ok (.getfield 357, 3) := dk_180 1 101 (dk_at dksX6_closeInterval_6 18 rfl rfl)
theorem dX6_closeInterval_164 : decode cX6_closeInterval 164 = .ok (.aload_n 1, 1) := dk_43 (dk_at dksX6_closeInterval_6 21 rfl rfl)
theorem dX6_closeInterval_165 : decode cX6_closeInterval 165 = .ok (.getfield 354, 3) := dk_180 1 98 (dk_at dksX6_closeInterval_7 0 rfl rfl)
theorem dX6_closeInterval_168 : decode cX6_closeInterval 168 = .ok (.invokestatic 258, 3) := dk_184 1 2 (dk_at dksX6_closeInterval_7 3 rfl rfl)
theorem dX6_closeInterval_171 : decode cX6_closeInterval 171 = .ok (.putfield 354, 3) := dk_181 1 98 (dk_at dksX6_closeInterval_7 6 rfl rfl)
theorem dX6_closeInterval_174 : decode cX6_closeInterval 174 = .ok (.aload_n 0, 1) := dk_42 (dk_at dksX6_closeInterval_7 9 rfl rfl)
theorem dX6_closeInterval_175 : decode cX6_closeInterval 175 = .ok (.iload 4, 2) := dk_21 4 (dk_at dksX6_closeInterval_7 10 rfl rfl)
theorem dX6_closeInterval_177 : decode cX6_closeInterval 177 = .ok (.iconst 3, 1) := dk_6 (dk_at dksX6_closeInterval_7 12 rfl rfl)
theorem dX6_closeInterval_178 : decode cX6_closeInterval 178 = .ok (.aload_n 1, 1) := dk_43 (dk_at dksX6_closeInterval_7 13 rfl rfl)
theorem dX6_closeInterval_179 : decode cX6_closeInterval 179 = .ok (.getfield 354, 3) := dk_180 1 98 (dk_at dksX6_closeInterval_7 14 rfl rfl)
theorem dX6_closeInterval_182 : decode cX6_closeInterval 182 = .ok (.aload_n 1, 1) := dk_43 (dk_at dksX6_closeInterval_7 17 rfl rfl)
theorem dX6_closeInterval_183 : decode cX6_closeInterval 183 = .ok (.getfield 307, 3) := dk_180 1 51 (dk_at dksX6_closeInterval_7 18 rfl rfl)
theorem dX6_closeInterval_186 : decode cX6_closeInterval 186 = .ok (.invokevirtual 297, 3) := dk_182 1 41 (dk_at dksX6_closeInterval_7 21 rfl rfl)
theorem dX6_closeInterval_189 : decode cX6_closeInterval 189 = .ok (.aload_n 1, 1) := dk_43 (dk_at dksX6_closeInterval_8 0 rfl rfl)
theorem dX6_closeInterval_190 : decode cX6_closeInterval 190 = .ok (.aload_n 1, 1) := dk_43 (dk_at dksX6_closeInterval_8 1 rfl rfl)
theorem dX6_closeInterval_191 : decode cX6_closeInterval 191 = .ok (.getfield 342, 3) := dk_180 1 86 (dk_at dksX6_closeInterval_8 2 rfl rfl)
theorem dX6_closeInterval_194 : decode cX6_closeInterval 194 = .ok (.iconst (-1), 1) := dk_2 (dk_at dksX6_closeInterval_8 5 rfl rfl)
theorem dX6_closeInterval_195 : decode cX6_closeInterval 195 = .ok (.if_icmp .ne 13, 3) := dk_160 0 13 (dk_at dksX6_closeInterval_8 6 rfl rfl)
theorem dX6_closeInterval_198 : decode cX6_closeInterval 198 = .ok (.iload_n 3, 1) := dk_29 (dk_at dksX6_closeInterval_8 9 rfl rfl)
theorem dX6_closeInterval_199 : decode cX6_closeInterval 199 = .ok (.aload_n 1, 1) := dk_43 (dk_at dksX6_closeInterval_8 10 rfl rfl)
theorem dX6_closeInterval_200 : decode cX6_closeInterval 200 = .ok (.getfield 349, 3) := dk_180 1 93 (dk_at dksX6_closeInterval_8 11 rfl rfl)
theorem dX6_closeInterval_203 : decode cX6_closeInterval 203 = .ok (.iconst 1, 1) := dk_4 (dk_at dksX6_closeInterval_8 14 rfl rfl)
theorem dX6_closeInterval_204 : decode cX6_closeInterval 204 = .ok (.isub, 1) := dk_100 (dk_at dksX6_closeInterval_8 15 rfl rfl)
theorem dX6_closeInterval_205 : decode cX6_closeInterval 205 = .ok (.if_icmp .ne 7, 3) := dk_160 0 7 (dk_at dksX6_closeInterval_8 16 rfl rfl)
theorem dX6_closeInterval_208 : decode cX6_closeInterval 208 = .ok (.iconst 1, 1) := dk_4 (dk_at dksX6_closeInterval_8 19 rfl rfl)
theorem dX6_closeInterval_209 : decode cX6_closeInterval 209 = .ok (.goto 4, 3) := dk_167 0 4 (dk_at dksX6_closeInterval_8 20 rfl rfl)
theorem dX6_closeInterval_212 : decode cX6_closeInterval 212 = .ok (.iconst 0, 1) := dk_3 (dk_at dksX6_closeInterval_8 23 rfl rfl)
theorem dX6_closeInterval_213 : decode cX6_closeInterval 213 = .ok (.putfield 203, 3) := dk_181 0 203 (dk_at dksX6_closeInterval_9 0 rfl rfl)
theorem dX6_closeInterval_216 : decode cX6_closeInterval 216 = .ok (.aload_n 1, 1) := dk_43 (dk_at dksX6_closeInterval_9 3 rfl rfl)
theorem dX6_closeInterval_217 : decode cX6_closeInterval 217 = .ok (.getfield 203, 3) := dk_180 0 203 (dk_at dksX6_closeInterval_9 4 rfl rfl)
theorem dX6_closeInterval_220 : decode cX6_closeInterval 220 = .ok (.ifCond .ne 23, 3) := dk_154 0 23 (dk_at dksX6_closeInterval_9 7 rfl rfl)
theorem dX6_closeInterval_223 : decode cX6_closeInterval 223 = .ok (.iload_n 2, 1) := dk_28 (dk_at dksX6_closeInterval_9 10 rfl rfl)
theorem dX6_closeInterval_224 : decode cX6_closeInterval 224 = .ok (.iconst 1, 1) := dk_4 (dk_at dksX6_closeInterval_9 11 rfl rfl)
theorem dX6_closeInterval_225 : decode cX6_closeInterval 225 = .ok (.iadd, 1) := dk_96 (dk_at dksX6_closeInterval_9 12 rfl rfl)
theorem dX6_closeInterval_226 : decode cX6_closeInterval 226 = .ok (.bipush 16, 2) := dk_16 16 (dk_at dksX6_closeInterval_9 13 rfl rfl)
theorem dX6_closeInterval_228 : decode cX6_closeInterval 228 = .ok (.if_icmp .ge 15, 3) := dk_162 0 15 (dk_at dksX6_closeInterval_9 15 rfl rfl)
theorem dX6_closeInterval_231 : decode cX6_closeInterval 231 = .ok (.aload_n 1, 1) := dk_43 (dk_at dksX6_closeInterval_9 18 rfl rfl)
theorem dX6_closeInterval_232 : decode cX6_closeInterval 232 = .ok (.getfield 319, 3) := dk_180 1 63 (dk_at dksX6_closeInterval_9 19 rfl rfl)
theorem dX6_closeInterval_235 : decode cX6_closeInterval 235 = .ok (.iload_n 2, 1) := dk_28 (dk_at dksX6_closeInterval_9 22 rfl rfl)
theorem dX6_closeInterval_236 : decode cX6_closeInterval 236 = .ok (.iconst 1, 1) := dk_4 (dk_at dksX6_closeInterval_9 23 rfl rfl)
theorem dX6_closeInterval_237 : decode cX6_closeInterval 237 = .ok (.iadd, 1) := dk_96 (dk_at dksX6_closeInterval_10 0 rfl rfl)
theorem dX6_closeInterval_238 : decode cX6_closeInterval 238 = .ok (.aload_n 1, 1) := dk_43 (dk_at dksX6_closeInterval_10 1 rfl rfl)
theorem dX6_closeInterval_239 : decode cX6_closeInterval 239 = .ok (.getfield 360, 3) := dk_180 1 104 (dk_at dksX6_closeInterval_10 2 rfl rfl)
theorem dX6_closeInterval_242 : decode cX6_closeInterval 242 = .ok (.iastore, 1) := dk_79 (dk_at dksX6_closeInterval_10 5 rfl rfl)
theorem dX6_closeInterval_243 : decode cX6_closeInterval 243 = .ok (.return_, 1) := dk_177 (dk_at dksX6_closeInterval_10 6 rfl rfl)
abbrev cX6_worthOf : ByteArray := prog_3_method_22_code
def yX6_worthOf : MethodName := ⟨RX6, "worthOf", "(LExemptDesk$Asset;II)I"⟩
def dkwX6_worthOf_3 : List UInt8 := [182, 0, 237, 22, 4, 20, 1, 110, 182, 1, 112, 172]
abbrev dktX6_worthOf_3 : List UInt8 := dkwX6_worthOf_3 ++ []
def dkwX6_worthOf_2 : List UInt8 := [167, 0, 7, 43, 180, 1, 32, 28, 182, 1, 107, 133, 97, 55, 4, 132, 6, 1, 167, 255, 216, 42]
abbrev dktX6_worthOf_2 : List UInt8 := dkwX6_worthOf_2 ++ dktX6_worthOf_3
def dkwX6_worthOf_1 : List UInt8 := [21, 6, 7, 162, 0, 40, 22, 4, 42, 21, 6, 29, 162, 0, 13, 43, 180, 1, 29, 21, 6, 46]
abbrev dktX6_worthOf_1 : List UInt8 := dkwX6_worthOf_1 ++ dktX6_worthOf_2
def dkwX6_worthOf_0 : List UInt8 := [43, 180, 1, 76, 2, 160, 0, 13, 42, 43, 180, 1, 32, 28, 182, 1, 107, 172, 9, 55, 4, 3, 54, 6]
abbrev dktX6_worthOf_0 : List UInt8 := dkwX6_worthOf_0 ++ dktX6_worthOf_1
theorem dksX6_worthOf_0 : cX6_worthOf.data.toList.drop 0 = dktX6_worthOf_0 := by decide +kernel
theorem dksX6_worthOf_1 : cX6_worthOf.data.toList.drop 24 = dktX6_worthOf_1 := dk_seg dksX6_worthOf_0 24 rfl rfl
theorem dksX6_worthOf_2 : cX6_worthOf.data.toList.drop 46 = dktX6_worthOf_2 := dk_seg dksX6_worthOf_1 22 rfl rfl
theorem dksX6_worthOf_3 : cX6_worthOf.data.toList.drop 68 = dktX6_worthOf_3 := dk_seg dksX6_worthOf_2 22 rfl rfl
theorem dX6_worthOf_0 : decode cX6_worthOf 0 = .ok (.aload_n 1, 1) := dk_43 (dk_at dksX6_worthOf_0 0 rfl rfl)
theorem dX6_worthOf_1 : decode cX6_worthOf 1 = .ok (.getfield 332, 3) := dk_180 1 76 (dk_at dksX6_worthOf_0 1 rfl rfl)
theorem dX6_worthOf_4 : decode cX6_worthOf 4 = .ok (.iconst (-1), 1) := dk_2 (dk_at dksX6_worthOf_0 4 rfl rfl)
theorem dX6_worthOf_5 : decode cX6_worthOf 5 = .ok (.if_icmp .ne 13, 3) := dk_160 0 13 (dk_at dksX6_worthOf_0 5 rfl rfl)
theorem dX6_worthOf_8 : decode cX6_worthOf 8 = .ok (.aload_n 0, 1) := dk_42 (dk_at dksX6_worthOf_0 8 rfl rfl)
theorem dX6_worthOf_9 : decode cX6_worthOf 9 = .ok (.aload_n 1, 1) := dk_43 (dk_at dksX6_worthOf_0 9 rfl rfl)
theorem dX6_worthOf_10 : decode cX6_worthOf 10 = .ok (.getfield 288, 3) := dk_180 1 32 (dk_at dksX6_worthOf_0 10 rfl rfl)
theorem dX6_worthOf_13 : decode cX6_worthOf 13 = .ok (.iload_n 2, 1) := dk_28 (dk_at dksX6_worthOf_0 13 rfl rfl)
theorem dX6_worthOf_14 : decode cX6_worthOf 14 = .ok (.invokevirtual 363, 3) := dk_182 1 107 (dk_at dksX6_worthOf_0 14 rfl rfl)
theorem dX6_worthOf_17 : decode cX6_worthOf 17 = .ok (.ireturn, 1) := dk_172 (dk_at dksX6_worthOf_0 17 rfl rfl)
theorem dX6_worthOf_18 : decode cX6_worthOf 18 = .ok (.lconst 0, 1) := dk_9 (dk_at dksX6_worthOf_0 18 rfl rfl)
theorem dX6_worthOf_19 : decode cX6_worthOf 19 = .ok (.lstore 4, 2) := dk_55 4 (dk_at dksX6_worthOf_0 19 rfl rfl)
theorem dX6_worthOf_21 : decode cX6_worthOf 21 = .ok (.iconst 0, 1) := dk_3 (dk_at dksX6_worthOf_0 21 rfl rfl)
theorem dX6_worthOf_22 : decode cX6_worthOf 22 = .ok (.istore 6, 2) := dk_54 6 (dk_at dksX6_worthOf_0 22 rfl rfl)
theorem dX6_worthOf_24 : decode cX6_worthOf 24 = .ok (.iload 6, 2) := dk_21 6 (dk_at dksX6_worthOf_1 0 rfl rfl)
theorem dX6_worthOf_26 : decode cX6_worthOf 26 = .ok (.iconst 4, 1) := dk_7 (dk_at dksX6_worthOf_1 2 rfl rfl)
theorem dX6_worthOf_27 : decode cX6_worthOf 27 = .ok (.if_icmp .ge 40, 3) := dk_162 0 40 (dk_at dksX6_worthOf_1 3 rfl rfl)
theorem dX6_worthOf_30 : decode cX6_worthOf 30 = .ok (.lload 4, 2) := dk_22 4 (dk_at dksX6_worthOf_1 6 rfl rfl)
theorem dX6_worthOf_32 : decode cX6_worthOf 32 = .ok (.aload_n 0, 1) := dk_42 (dk_at dksX6_worthOf_1 8 rfl rfl)
theorem dX6_worthOf_33 : decode cX6_worthOf 33 = .ok (.iload 6, 2) := dk_21 6 (dk_at dksX6_worthOf_1 9 rfl rfl)
theorem dX6_worthOf_35 : decode cX6_worthOf 35 = .ok (.iload_n 3, 1) := dk_29 (dk_at dksX6_worthOf_1 11 rfl rfl)
theorem dX6_worthOf_36 : decode cX6_worthOf 36 = .ok (.if_icmp .ge 13, 3) := dk_162 0 13 (dk_at dksX6_worthOf_1 12 rfl rfl)
theorem dX6_worthOf_39 : decode cX6_worthOf 39 = .ok (.aload_n 1, 1) := dk_43 (dk_at dksX6_worthOf_1 15 rfl rfl)
theorem dX6_worthOf_40 : decode cX6_worthOf 40 = .ok (.getfield 285, 3) := dk_180 1 29 (dk_at dksX6_worthOf_1 16 rfl rfl)
theorem dX6_worthOf_43 : decode cX6_worthOf 43 = .ok (.iload 6, 2) := dk_21 6 (dk_at dksX6_worthOf_1 19 rfl rfl)
theorem dX6_worthOf_45 : decode cX6_worthOf 45 = .ok (.iaload, 1) := dk_46 (dk_at dksX6_worthOf_1 21 rfl rfl)
theorem dX6_worthOf_46 : decode cX6_worthOf 46 = .ok (.goto 7, 3) := dk_167 0 7 (dk_at dksX6_worthOf_2 0 rfl rfl)
theorem dX6_worthOf_49 : decode cX6_worthOf 49 = .ok (.aload_n 1, 1) := dk_43 (dk_at dksX6_worthOf_2 3 rfl rfl)
theorem dX6_worthOf_50 : decode cX6_worthOf 50 = .ok (.getfield 288, 3) := dk_180 1 32 (dk_at dksX6_worthOf_2 4 rfl rfl)
theorem dX6_worthOf_53 : decode cX6_worthOf 53 = .ok (.iload_n 2, 1) := dk_28 (dk_at dksX6_worthOf_2 7 rfl rfl)
theorem dX6_worthOf_54 : decode cX6_worthOf 54 = .ok (.invokevirtual 363, 3) := dk_182 1 107 (dk_at dksX6_worthOf_2 8 rfl rfl)
theorem dX6_worthOf_57 : decode cX6_worthOf 57 = .ok (.i2l, 1) := dk_133 (dk_at dksX6_worthOf_2 11 rfl rfl)
theorem dX6_worthOf_58 : decode cX6_worthOf 58 = .ok (.ladd, 1) := dk_97 (dk_at dksX6_worthOf_2 12 rfl rfl)
theorem dX6_worthOf_59 : decode cX6_worthOf 59 = .ok (.lstore 4, 2) := dk_55 4 (dk_at dksX6_worthOf_2 13 rfl rfl)
theorem dX6_worthOf_61 : decode cX6_worthOf 61 = .ok (.iinc 6 1, 3) := dk_132 6 1 (dk_at dksX6_worthOf_2 15 rfl rfl)
theorem dX6_worthOf_64 : decode cX6_worthOf 64 = .ok (.goto (-40), 3) := dk_167 255 216 (dk_at dksX6_worthOf_2 18 rfl rfl)
theorem dX6_worthOf_67 : decode cX6_worthOf 67 = .ok (.aload_n 0, 1) := dk_42 (dk_at dksX6_worthOf_2 21 rfl rfl)
theorem dX6_worthOf_68 : decode cX6_worthOf 68 = .ok (.invokevirtual 237, 3) := dk_182 0 237 (dk_at dksX6_worthOf_3 0 rfl rfl)
theorem dX6_worthOf_71 : decode cX6_worthOf 71 = .ok (.lload 4, 2) := dk_22 4 (dk_at dksX6_worthOf_3 3 rfl rfl)
theorem dX6_worthOf_73 : decode cX6_worthOf 73 = .ok (.ldc2_w 366, 3) := dk_20 1 110 (dk_at dksX6_worthOf_3 5 rfl rfl)
theorem dX6_worthOf_76 : decode cX6_worthOf 76 = .ok (.invokevirtual 368, 3) := dk_182 1 112 (dk_at dksX6_worthOf_3 8 rfl rfl)
theorem dX6_worthOf_79 : decode cX6_worthOf 79 = .ok (.ireturn, 1) := dk_172 (dk_at dksX6_worthOf_3 11 rfl rfl)
abbrev cX6_byUse : ByteArray := prog_3_method_23_code
def yX6_byUse : MethodName := ⟨RX6, "byUse", "(II)I"⟩
def dkwX6_byUse_1 : List UInt8 := [167, 0, 4, 28, 172]
abbrev dktX6_byUse_1 : List UInt8 := dkwX6_byUse_1 ++ []
def dkwX6_byUse_0 : List UInt8 := [27, 154, 0, 16, 42, 180, 0, 3, 180, 0, 75, 180, 0, 234, 167, 0, 13, 27, 4, 160, 0, 7, 3]
abbrev dktX6_byUse_0 : List UInt8 := dkwX6_byUse_0 ++ dktX6_byUse_1
theorem dksX6_byUse_0 : cX6_byUse.data.toList.drop 0 = dktX6_byUse_0 := by decide +kernel
theorem dksX6_byUse_1 : cX6_byUse.data.toList.drop 23 = dktX6_byUse_1 := dk_seg dksX6_byUse_0 23 rfl rfl
theorem dX6_byUse_0 : decode cX6_byUse 0 = .ok (.iload_n 1, 1) := dk_27 (dk_at dksX6_byUse_0 0 rfl rfl)
theorem dX6_byUse_1 : decode cX6_byUse 1 = .ok (.ifCond .ne 16, 3) := dk_154 0 16 (dk_at dksX6_byUse_0 1 rfl rfl)
theorem dX6_byUse_4 : decode cX6_byUse 4 = .ok (.aload_n 0, 1) := dk_42 (dk_at dksX6_byUse_0 4 rfl rfl)
theorem dX6_byUse_5 : decode cX6_byUse 5 = .ok (.getfield 3, 3) := dk_180 0 3 (dk_at dksX6_byUse_0 5 rfl rfl)
theorem dX6_byUse_8 : decode cX6_byUse 8 = .ok (.getfield 75, 3) := dk_180 0 75 (dk_at dksX6_byUse_0 8 rfl rfl)
theorem dX6_byUse_11 : decode cX6_byUse 11 = .ok (.getfield 234, 3) := dk_180 0 234 (dk_at dksX6_byUse_0 11 rfl rfl)
theorem dX6_byUse_14 : decode cX6_byUse 14 = .ok (.goto 13, 3) := dk_167 0 13 (dk_at dksX6_byUse_0 14 rfl rfl)
theorem dX6_byUse_17 : decode cX6_byUse 17 = .ok (.iload_n 1, 1) := dk_27 (dk_at dksX6_byUse_0 17 rfl rfl)
theorem dX6_byUse_18 : decode cX6_byUse 18 = .ok (.iconst 1, 1) := dk_4 (dk_at dksX6_byUse_0 18 rfl rfl)
theorem dX6_byUse_19 : decode cX6_byUse 19 = .ok (.if_icmp .ne 7, 3) := dk_160 0 7 (dk_at dksX6_byUse_0 19 rfl rfl)
theorem dX6_byUse_22 : decode cX6_byUse 22 = .ok (.iconst 0, 1) := dk_3 (dk_at dksX6_byUse_0 22 rfl rfl)
theorem dX6_byUse_23 : decode cX6_byUse 23 = .ok (.goto 4, 3) := dk_167 0 4 (dk_at dksX6_byUse_1 0 rfl rfl)
theorem dX6_byUse_26 : decode cX6_byUse 26 = .ok (.iload_n 2, 1) := dk_28 (dk_at dksX6_byUse_1 3 rfl rfl)
theorem dX6_byUse_27 : decode cX6_byUse 27 = .ok (.ireturn, 1) := dk_172 (dk_at dksX6_byUse_1 4 rfl rfl)
abbrev cX6_finalOf : ByteArray := prog_3_method_21_code
def yX6_finalOf : MethodName := ⟨RX6, "finalOf", "(LExemptDesk$Asset;III)I"⟩
def dkwX6_finalOf_1 : List UInt8 := [180, 0, 3, 180, 0, 75, 180, 0, 234, 42, 182, 0, 237, 182, 1, 82, 136, 172]
abbrev dktX6_finalOf_1 : List UInt8 := dkwX6_finalOf_1 ++ []
def dkwX6_finalOf_0 : List UInt8 := [43, 28, 154, 0, 16, 42, 180, 0, 3, 180, 0, 75, 180, 0, 234, 167, 0, 4, 3, 29, 21, 4, 42]
abbrev dktX6_finalOf_0 : List UInt8 := dkwX6_finalOf_0 ++ dktX6_finalOf_1
theorem dksX6_finalOf_0 : cX6_finalOf.data.toList.drop 0 = dktX6_finalOf_0 := by decide +kernel
theorem dksX6_finalOf_1 : cX6_finalOf.data.toList.drop 23 = dktX6_finalOf_1 := dk_seg dksX6_finalOf_0 23 rfl rfl
theorem dX6_finalOf_0 : decode cX6_finalOf 0 = .ok (.aload_n 1, 1) := dk_43 (dk_at dksX6_finalOf_0 0 rfl rfl)
theorem dX6_finalOf_1 : decode cX6_finalOf 1 = .ok (.iload_n 2, 1) := dk_28 (dk_at dksX6_finalOf_0 1 rfl rfl)
theorem dX6_finalOf_2 : decode cX6_finalOf 2 = .ok (.ifCond .ne 16, 3) := dk_154 0 16 (dk_at dksX6_finalOf_0 2 rfl rfl)
theorem dX6_finalOf_5 : decode cX6_finalOf 5 = .ok (.aload_n 0, 1) := dk_42 (dk_at dksX6_finalOf_0 5 rfl rfl)
theorem dX6_finalOf_6 : decode cX6_finalOf 6 = .ok (.getfield 3, 3) := dk_180 0 3 (dk_at dksX6_finalOf_0 6 rfl rfl)
theorem dX6_finalOf_9 : decode cX6_finalOf 9 = .ok (.getfield 75, 3) := dk_180 0 75 (dk_at dksX6_finalOf_0 9 rfl rfl)
theorem dX6_finalOf_12 : decode cX6_finalOf 12 = .ok (.getfield 234, 3) := dk_180 0 234 (dk_at dksX6_finalOf_0 12 rfl rfl)
theorem dX6_finalOf_15 : decode cX6_finalOf 15 = .ok (.goto 4, 3) := dk_167 0 4 (dk_at dksX6_finalOf_0 15 rfl rfl)
theorem dX6_finalOf_18 : decode cX6_finalOf 18 = .ok (.iconst 0, 1) := dk_3 (dk_at dksX6_finalOf_0 18 rfl rfl)
theorem dX6_finalOf_19 : decode cX6_finalOf 19 = .ok (.iload_n 3, 1) := dk_29 (dk_at dksX6_finalOf_0 19 rfl rfl)
theorem dX6_finalOf_20 : decode cX6_finalOf 20 = .ok (.iload 4, 2) := dk_21 4 (dk_at dksX6_finalOf_0 20 rfl rfl)
theorem dX6_finalOf_22 : decode cX6_finalOf 22 = .ok (.aload_n 0, 1) := dk_42 (dk_at dksX6_finalOf_0 22 rfl rfl)
theorem dX6_finalOf_23 : decode cX6_finalOf 23 = .ok (.getfield 3, 3) := dk_180 0 3 (dk_at dksX6_finalOf_1 0 rfl rfl)
theorem dX6_finalOf_26 : decode cX6_finalOf 26 = .ok (.getfield 75, 3) := dk_180 0 75 (dk_at dksX6_finalOf_1 3 rfl rfl)
theorem dX6_finalOf_29 : decode cX6_finalOf 29 = .ok (.getfield 234, 3) := dk_180 0 234 (dk_at dksX6_finalOf_1 6 rfl rfl)
theorem dX6_finalOf_32 : decode cX6_finalOf 32 = .ok (.aload_n 0, 1) := dk_42 (dk_at dksX6_finalOf_1 9 rfl rfl)
theorem dX6_finalOf_33 : decode cX6_finalOf 33 = .ok (.invokevirtual 237, 3) := dk_182 0 237 (dk_at dksX6_finalOf_1 10 rfl rfl)
theorem dX6_finalOf_36 : decode cX6_finalOf 36 = .ok (.invokevirtual 338, 3) := dk_182 1 82 (dk_at dksX6_finalOf_1 13 rfl rfl)
theorem dX6_finalOf_39 : decode cX6_finalOf 39 = .ok (.l2i, 1) := dk_136 (dk_at dksX6_finalOf_1 16 rfl rfl)
theorem dX6_finalOf_40 : decode cX6_finalOf 40 = .ok (.ireturn, 1) := dk_172 (dk_at dksX6_finalOf_1 17 rfl rfl)
abbrev cX6_annualOf : ByteArray := prog_3_method_12_code
def yX6_annualOf : MethodName := ⟨RX6, "annualOf", "(II)I"⟩
def dkwX6_annualOf_1 : List UInt8 := [27, 28, 182, 0, 244, 182, 0, 248, 172]
abbrev dktX6_annualOf_1 : List UInt8 := dkwX6_annualOf_1 ++ []
def dkwX6_annualOf_0 : List UInt8 := [28, 42, 180, 0, 105, 7, 108, 162, 0, 14, 42, 180, 0, 28, 27, 50, 28, 46, 167, 0, 14, 42, 27, 42]
abbrev dktX6_annualOf_0 : List UInt8 := dkwX6_annualOf_0 ++ dktX6_annualOf_1
theorem dksX6_annualOf_0 : cX6_annualOf.data.toList.drop 0 = dktX6_annualOf_0 := by decide +kernel
theorem dksX6_annualOf_1 : cX6_annualOf.data.toList.drop 24 = dktX6_annualOf_1 := dk_seg dksX6_annualOf_0 24 rfl rfl
theorem dX6_annualOf_0 : decode cX6_annualOf 0 = .ok (.iload_n 2, 1) := dk_28 (dk_at dksX6_annualOf_0 0 rfl rfl)
theorem dX6_annualOf_1 : decode cX6_annualOf 1 = .ok (.aload_n 0, 1) := dk_42 (dk_at dksX6_annualOf_0 1 rfl rfl)
theorem dX6_annualOf_2 : decode cX6_annualOf 2 = .ok (.getfield 105, 3) := dk_180 0 105 (dk_at dksX6_annualOf_0 2 rfl rfl)
theorem dX6_annualOf_5 : decode cX6_annualOf 5 = .ok (.iconst 4, 1) := dk_7 (dk_at dksX6_annualOf_0 5 rfl rfl)
theorem dX6_annualOf_6 : decode cX6_annualOf 6 = .ok (.idiv, 1) := dk_108 (dk_at dksX6_annualOf_0 6 rfl rfl)
theorem dX6_annualOf_7 : decode cX6_annualOf 7 = .ok (.if_icmp .ge 14, 3) := dk_162 0 14 (dk_at dksX6_annualOf_0 7 rfl rfl)
theorem dX6_annualOf_10 : decode cX6_annualOf 10 = .ok (.aload_n 0, 1) := dk_42 (dk_at dksX6_annualOf_0 10 rfl rfl)
theorem dX6_annualOf_11 : decode cX6_annualOf 11 = .ok (.getfield 28, 3) := dk_180 0 28 (dk_at dksX6_annualOf_0 11 rfl rfl)
theorem dX6_annualOf_14 : decode cX6_annualOf 14 = .ok (.iload_n 1, 1) := dk_27 (dk_at dksX6_annualOf_0 14 rfl rfl)
theorem dX6_annualOf_15 : decode cX6_annualOf 15 = .ok (.aaload, 1) := dk_50 (dk_at dksX6_annualOf_0 15 rfl rfl)
theorem dX6_annualOf_16 : decode cX6_annualOf 16 = .ok (.iload_n 2, 1) := dk_28 (dk_at dksX6_annualOf_0 16 rfl rfl)
theorem dX6_annualOf_17 : decode cX6_annualOf 17 = .ok (.iaload, 1) := dk_46 (dk_at dksX6_annualOf_0 17 rfl rfl)
theorem dX6_annualOf_18 : decode cX6_annualOf 18 = .ok (.goto 14, 3) := dk_167 0 14 (dk_at dksX6_annualOf_0 18 rfl rfl)
theorem dX6_annualOf_21 : decode cX6_annualOf 21 = .ok (.aload_n 0, 1) := dk_42 (dk_at dksX6_annualOf_0 21 rfl rfl)
theorem dX6_annualOf_22 : decode cX6_annualOf 22 = .ok (.iload_n 1, 1) := dk_27 (dk_at dksX6_annualOf_0 22 rfl rfl)
theorem dX6_annualOf_23 : decode cX6_annualOf 23 = .ok (.aload_n 0, 1) := dk_42 (dk_at dksX6_annualOf_0 23 rfl rfl)
theorem dX6_annualOf_24 : decode cX6_annualOf 24 = .ok (.iload_n 1, 1) := dk_27 (dk_at dksX6_annualOf_1 0 rfl rfl)
theorem dX6_annualOf_25 : decode cX6_annualOf 25 = .ok (.iload_n 2, 1) := dk_28 (dk_at dksX6_annualOf_1 1 rfl rfl)
theorem dX6_annualOf_26 : decode cX6_annualOf 26 = .ok (.invokevirtual 244, 3) := dk_182 0 244 (dk_at dksX6_annualOf_1 2 rfl rfl)
theorem dX6_annualOf_29 : decode cX6_annualOf 29 = .ok (.invokevirtual 248, 3) := dk_182 0 248 (dk_at dksX6_annualOf_1 5 rfl rfl)
theorem dX6_annualOf_32 : decode cX6_annualOf 32 = .ok (.ireturn, 1) := dk_172 (dk_at dksX6_annualOf_1 8 rfl rfl)
abbrev cX6_backOfYear : ByteArray := prog_3_method_14_code
def yX6_backOfYear : MethodName := ⟨RX6, "backOfYear", "(II)I"⟩
def dkwX6_backOfYear_1 : List UInt8 := [182, 0, 237, 42, 180, 0, 3, 180, 0, 75, 180, 1, 8, 182, 1, 11, 172]
abbrev dktX6_backOfYear_1 : List UInt8 := dkwX6_backOfYear_1 ++ []
def dkwX6_backOfYear_0 : List UInt8 := [42, 27, 28, 182, 0, 244, 42, 27, 28, 182, 1, 5, 42, 180, 0, 3, 180, 0, 75, 180, 0, 234, 42]
abbrev dktX6_backOfYear_0 : List UInt8 := dkwX6_backOfYear_0 ++ dktX6_backOfYear_1
theorem dksX6_backOfYear_0 : cX6_backOfYear.data.toList.drop 0 = dktX6_backOfYear_0 := by decide +kernel
theorem dksX6_backOfYear_1 : cX6_backOfYear.data.toList.drop 23 = dktX6_backOfYear_1 := dk_seg dksX6_backOfYear_0 23 rfl rfl
theorem dX6_backOfYear_0 : decode cX6_backOfYear 0 = .ok (.aload_n 0, 1) := dk_42 (dk_at dksX6_backOfYear_0 0 rfl rfl)
theorem dX6_backOfYear_1 : decode cX6_backOfYear 1 = .ok (.iload_n 1, 1) := dk_27 (dk_at dksX6_backOfYear_0 1 rfl rfl)
theorem dX6_backOfYear_2 : decode cX6_backOfYear 2 = .ok (.iload_n 2, 1) := dk_28 (dk_at dksX6_backOfYear_0 2 rfl rfl)
theorem dX6_backOfYear_3 : decode cX6_backOfYear 3 = .ok (.invokevirtual 244, 3) := dk_182 0 244 (dk_at dksX6_backOfYear_0 3 rfl rfl)
theorem dX6_backOfYear_6 : decode cX6_backOfYear 6 = .ok (.aload_n 0, 1) := dk_42 (dk_at dksX6_backOfYear_0 6 rfl rfl)
theorem dX6_backOfYear_7 : decode cX6_backOfYear 7 = .ok (.iload_n 1, 1) := dk_27 (dk_at dksX6_backOfYear_0 7 rfl rfl)
theorem dX6_backOfYear_8 : decode cX6_backOfYear 8 = .ok (.iload_n 2, 1) := dk_28 (dk_at dksX6_backOfYear_0 8 rfl rfl)
theorem dX6_backOfYear_9 : decode cX6_backOfYear 9 = .ok (.invokevirtual 261, 3) := dk_182 1 5 (dk_at dksX6_backOfYear_0 9 rfl rfl)
theorem dX6_backOfYear_12 : decode cX6_backOfYear 12 = .ok (.aload_n 0, 1) := dk_42 (dk_at dksX6_backOfYear_0 12 rfl rfl)
theorem dX6_backOfYear_13 : decode cX6_backOfYear 13 = .ok (.getfield 3, 3) := dk_180 0 3 (dk_at dksX6_backOfYear_0 13 rfl rfl)
theorem dX6_backOfYear_16 : decode cX6_backOfYear 16 = .ok (.getfield 75, 3) := dk_180 0 75 (dk_at dksX6_backOfYear_0 16 rfl rfl)
theorem dX6_backOfYear_19 : decode cX6_backOfYear 19 = .ok (.getfield 234, 3) := dk_180 0 234 (dk_at dksX6_backOfYear_0 19 rfl rfl)
theorem dX6_backOfYear_22 : decode cX6_backOfYear 22 = .ok (.aload_n 0, 1) := dk_42 (dk_at dksX6_backOfYear_0 22 rfl rfl)
theorem dX6_backOfYear_23 : decode cX6_backOfYear 23 = .ok (.invokevirtual 237, 3) := dk_182 0 237 (dk_at dksX6_backOfYear_1 0 rfl rfl)
theorem dX6_backOfYear_26 : decode cX6_backOfYear 26 = .ok (.aload_n 0, 1) := dk_42 (dk_at dksX6_backOfYear_1 3 rfl rfl)
theorem dX6_backOfYear_27 : decode cX6_backOfYear 27 = .ok (.getfield 3, 3) := dk_180 0 3 (dk_at dksX6_backOfYear_1 4 rfl rfl)
theorem dX6_backOfYear_30 : decode cX6_backOfYear 30 = .ok (.getfield 75, 3) := dk_180 0 75 (dk_at dksX6_backOfYear_1 7 rfl rfl)
theorem dX6_backOfYear_33 : decode cX6_backOfYear 33 = .ok (.getfield 264, 3) := dk_180 1 8 (dk_at dksX6_backOfYear_1 10 rfl rfl)
theorem dX6_backOfYear_36 : decode cX6_backOfYear 36 = .ok (.invokevirtual 267, 3) := dk_182 1 11 (dk_at dksX6_backOfYear_1 13 rfl rfl)
theorem dX6_backOfYear_39 : decode cX6_backOfYear 39 = .ok (.ireturn, 1) := dk_172 (dk_at dksX6_backOfYear_1 16 rfl rfl)
abbrev cX6_taken : ByteArray := prog_3_method_27_code
def yX6_taken : MethodName := ⟨RX6, "taken", "(LExemptDesk$Asset;)I"⟩
def dkwX6_taken_2 : List UInt8 := [180, 1, 79, 29, 46, 96, 61, 132, 3, 1, 167, 255, 238, 28, 172]
abbrev dktX6_taken_2 : List UInt8 := dkwX6_taken_2 ++ []
def dkwX6_taken_1 : List UInt8 := [160, 0, 7, 3, 167, 0, 7, 43, 180, 1, 98, 96, 61, 3, 62, 29, 16, 16, 162, 0, 18, 28, 43]
abbrev dktX6_taken_1 : List UInt8 := dkwX6_taken_1 ++ dktX6_taken_2
def dkwX6_taken_0 : List UInt8 := [43, 180, 1, 76, 2, 160, 0, 5, 3, 172, 42, 43, 182, 1, 123, 43, 180, 1, 98, 19, 1, 126]
abbrev dktX6_taken_0 : List UInt8 := dkwX6_taken_0 ++ dktX6_taken_1
theorem dksX6_taken_0 : cX6_taken.data.toList.drop 0 = dktX6_taken_0 := by decide +kernel
theorem dksX6_taken_1 : cX6_taken.data.toList.drop 22 = dktX6_taken_1 := dk_seg dksX6_taken_0 22 rfl rfl
theorem dksX6_taken_2 : cX6_taken.data.toList.drop 45 = dktX6_taken_2 := dk_seg dksX6_taken_1 23 rfl rfl
theorem dX6_taken_0 : decode cX6_taken 0 = .ok (.aload_n 1, 1) := dk_43 (dk_at dksX6_taken_0 0 rfl rfl)
theorem dX6_taken_1 : decode cX6_taken 1 = .ok (.getfield 332, 3) := dk_180 1 76 (dk_at dksX6_taken_0 1 rfl rfl)
theorem dX6_taken_4 : decode cX6_taken 4 = .ok (.iconst (-1), 1) := dk_2 (dk_at dksX6_taken_0 4 rfl rfl)
theorem dX6_taken_5 : decode cX6_taken 5 = .ok (.if_icmp .ne 5, 3) := dk_160 0 5 (dk_at dksX6_taken_0 5 rfl rfl)
theorem dX6_taken_8 : decode cX6_taken 8 = .ok (.iconst 0, 1) := dk_3 (dk_at dksX6_taken_0 8 rfl rfl)
theorem dX6_taken_9 : decode cX6_taken 9 = .ok (.ireturn, 1) := dk_172 (dk_at dksX6_taken_0 9 rfl rfl)
theorem dX6_taken_10 : decode cX6_taken 10 = .ok (.aload_n 0, 1) := dk_42 (dk_at dksX6_taken_0 10 rfl rfl)
theorem dX6_taken_11 : decode cX6_taken 11 = .ok (.aload_n 1, 1) := dk_43 (dk_at dksX6_taken_0 11 rfl rfl)
theorem dX6_taken_12 : decode cX6_taken 12 = .ok (.invokevirtual 379, 3) := dk_182 1 123 (dk_at dksX6_taken_0 12 rfl rfl)
theorem dX6_taken_15 : decode cX6_taken 15 = .ok (.aload_n 1, 1) := dk_43 (dk_at dksX6_taken_0 15 rfl rfl)
theorem dX6_taken_16 : decode cX6_taken 16 = .ok (.getfield 354, 3) := dk_180 1 98 (dk_at dksX6_taken_0 16 rfl rfl)
theorem dX6_taken_19 : decode cX6_taken 19 = .ok (.ldc_w 382, 3) := dk_19 1 126 (dk_at dksX6_taken_0 19 rfl rfl)
theorem dX6_taken_22 : decode cX6_taken 22 = .ok (.if_icmp .ne 7, 3) := dk_160 0 7 (dk_at dksX6_taken_1 0 rfl rfl)
theorem dX6_taken_25 : decode cX6_taken 25 = .ok (.iconst 0, 1) := dk_3 (dk_at dksX6_taken_1 3 rfl rfl)
theorem dX6_taken_26 : decode cX6_taken 26 = .ok (.goto 7, 3) := dk_167 0 7 (dk_at dksX6_taken_1 4 rfl rfl)
theorem dX6_taken_29 : decode cX6_taken 29 = .ok (.aload_n 1, 1) := dk_43 (dk_at dksX6_taken_1 7 rfl rfl)
theorem dX6_taken_30 : decode cX6_taken 30 = .ok (.getfield 354, 3) := dk_180 1 98 (dk_at dksX6_taken_1 8 rfl rfl)
theorem dX6_taken_33 : decode cX6_taken 33 = .ok (.iadd, 1) := dk_96 (dk_at dksX6_taken_1 11 rfl rfl)
theorem dX6_taken_34 : decode cX6_taken 34 = .ok (.istore_n 2, 1) := dk_61 (dk_at dksX6_taken_1 12 rfl rfl)
theorem dX6_taken_35 : decode cX6_taken 35 = .ok (.iconst 0, 1) := dk_3 (dk_at dksX6_taken_1 13 rfl rfl)
theorem dX6_taken_36 : decode cX6_taken 36 = .ok (.istore_n 3, 1) := dk_62 (dk_at dksX6_taken_1 14 rfl rfl)
theorem dX6_taken_37 : decode cX6_taken 37 = .ok (.iload_n 3, 1) := dk_29 (dk_at dksX6_taken_1 15 rfl rfl)
theorem dX6_taken_38 : decode cX6_taken 38 = .ok (.bipush 16, 2) := dk_16 16 (dk_at dksX6_taken_1 16 rfl rfl)
theorem dX6_taken_40 : decode cX6_taken 40 = .ok (.if_icmp .ge 18, 3) := dk_162 0 18 (dk_at dksX6_taken_1 18 rfl rfl)
theorem dX6_taken_43 : decode cX6_taken 43 = .ok (.iload_n 2, 1) := dk_28 (dk_at dksX6_taken_1 21 rfl rfl)
theorem dX6_taken_44 : decode cX6_taken 44 = .ok (.aload_n 1, 1) := dk_43 (dk_at dksX6_taken_1 22 rfl rfl)
theorem dX6_taken_45 : decode cX6_taken 45 = .ok (.getfield 335, 3) := dk_180 1 79 (dk_at dksX6_taken_2 0 rfl rfl)
theorem dX6_taken_48 : decode cX6_taken 48 = .ok (.iload_n 3, 1) := dk_29 (dk_at dksX6_taken_2 3 rfl rfl)
theorem dX6_taken_49 : decode cX6_taken 49 = .ok (.iaload, 1) := dk_46 (dk_at dksX6_taken_2 4 rfl rfl)
theorem dX6_taken_50 : decode cX6_taken 50 = .ok (.iadd, 1) := dk_96 (dk_at dksX6_taken_2 5 rfl rfl)
theorem dX6_taken_51 : decode cX6_taken 51 = .ok (.istore_n 2, 1) := dk_61 (dk_at dksX6_taken_2 6 rfl rfl)
theorem dX6_taken_52 : decode cX6_taken 52 = .ok (.iinc 3 1, 3) := dk_132 3 1 (dk_at dksX6_taken_2 7 rfl rfl)
theorem dX6_taken_55 : decode cX6_taken 55 = .ok (.goto (-18), 3) := dk_167 255 238 (dk_at dksX6_taken_2 10 rfl rfl)
theorem dX6_taken_58 : decode cX6_taken 58 = .ok (.iload_n 2, 1) := dk_28 (dk_at dksX6_taken_2 13 rfl rfl)
theorem dX6_taken_59 : decode cX6_taken 59 = .ok (.ireturn, 1) := dk_172 (dk_at dksX6_taken_2 14 rfl rfl)
abbrev cX6_baseNow : ByteArray := prog_3_method_25_code
def yX6_baseNow : MethodName := ⟨RX6, "baseNow", "(LExemptDesk$Asset;)I"⟩
def dkwX6_baseNow_0 : List UInt8 := [43, 180, 1, 76, 2, 160, 0, 11, 42, 43, 182, 1, 116, 167, 0, 7, 43, 180, 1, 76, 172]
abbrev dktX6_baseNow_0 : List UInt8 := dkwX6_baseNow_0 ++ []
theorem dksX6_baseNow_0 : cX6_baseNow.data.toList.drop 0 = dktX6_baseNow_0 := by decide +kernel
theorem dX6_baseNow_0 : decode cX6_baseNow 0 = .ok (.aload_n 1, 1) := dk_43 (dk_at dksX6_baseNow_0 0 rfl rfl)
theorem dX6_baseNow_1 : decode cX6_baseNow 1 = .ok (.getfield 332, 3) := dk_180 1 76 (dk_at dksX6_baseNow_0 1 rfl rfl)
theorem dX6_baseNow_4 : decode cX6_baseNow 4 = .ok (.iconst (-1), 1) := dk_2 (dk_at dksX6_baseNow_0 4 rfl rfl)
theorem dX6_baseNow_5 : decode cX6_baseNow 5 = .ok (.if_icmp .ne 11, 3) := dk_160 0 11 (dk_at dksX6_baseNow_0 5 rfl rfl)
theorem dX6_baseNow_8 : decode cX6_baseNow 8 = .ok (.aload_n 0, 1) := dk_42 (dk_at dksX6_baseNow_0 8 rfl rfl)
theorem dX6_baseNow_9 : decode cX6_baseNow 9 = .ok (.aload_n 1, 1) := dk_43 (dk_at dksX6_baseNow_0 9 rfl rfl)
theorem dX6_baseNow_10 : decode cX6_baseNow 10 = .ok (.invokevirtual 372, 3) := dk_182 1 116 (dk_at dksX6_baseNow_0 10 rfl rfl)
theorem dX6_baseNow_13 : decode cX6_baseNow 13 = .ok (.goto 7, 3) := dk_167 0 7 (dk_at dksX6_baseNow_0 13 rfl rfl)
theorem dX6_baseNow_16 : decode cX6_baseNow 16 = .ok (.aload_n 1, 1) := dk_43 (dk_at dksX6_baseNow_0 16 rfl rfl)
theorem dX6_baseNow_17 : decode cX6_baseNow 17 = .ok (.getfield 332, 3) := dk_180 1 76 (dk_at dksX6_baseNow_0 17 rfl rfl)
theorem dX6_baseNow_20 : decode cX6_baseNow 20 = .ok (.ireturn, 1) := dk_172 (dk_at dksX6_baseNow_0 20 rfl rfl)
abbrev cX6_worthNow : ByteArray := prog_3_method_24_code
def yX6_worthNow : MethodName := ⟨RX6, "worthNow", "(LExemptDesk$Asset;)I"⟩
def dkwX6_worthNow_1 : List UInt8 := [180, 0, 105, 7, 112, 182, 1, 72, 172]
abbrev dktX6_worthNow_1 : List UInt8 := dkwX6_worthNow_1 ++ []
def dkwX6_worthNow_0 : List UInt8 := [42, 43, 42, 43, 180, 1, 63, 42, 180, 0, 105, 7, 108, 46, 42, 180, 0, 105, 7, 108, 182, 1, 5, 42]
abbrev dktX6_worthNow_0 : List UInt8 := dkwX6_worthNow_0 ++ dktX6_worthNow_1
theorem dksX6_worthNow_0 : cX6_worthNow.data.toList.drop 0 = dktX6_worthNow_0 := by decide +kernel
theorem dksX6_worthNow_1 : cX6_worthNow.data.toList.drop 24 = dktX6_worthNow_1 := dk_seg dksX6_worthNow_0 24 rfl rfl
theorem dX6_worthNow_0 : decode cX6_worthNow 0 = .ok (.aload_n 0, 1) := dk_42 (dk_at dksX6_worthNow_0 0 rfl rfl)
theorem dX6_worthNow_1 : decode cX6_worthNow 1 = .ok (.aload_n 1, 1) := dk_43 (dk_at dksX6_worthNow_0 1 rfl rfl)
theorem dX6_worthNow_2 : decode cX6_worthNow 2 = .ok (.aload_n 0, 1) := dk_42 (dk_at dksX6_worthNow_0 2 rfl rfl)
theorem dX6_worthNow_3 : decode cX6_worthNow 3 = .ok (.aload_n 1, 1) := dk_43 (dk_at dksX6_worthNow_0 3 rfl rfl)
theorem dX6_worthNow_4 : decode cX6_worthNow 4 = .ok (.getfield 319, 3) := dk_180 1 63 (dk_at dksX6_worthNow_0 4 rfl rfl)
theorem dX6_worthNow_7 : decode cX6_worthNow 7 = .ok (.aload_n 0, 1) := dk_42 (dk_at dksX6_worthNow_0 7 rfl rfl)
theorem dX6_worthNow_8 : decode cX6_worthNow 8 = .ok (.getfield 105, 3) := dk_180 0 105 (dk_at dksX6_worthNow_0 8 rfl rfl)
theorem dX6_worthNow_11 : decode cX6_worthNow 11 = .ok (.iconst 4, 1) := dk_7 (dk_at dksX6_worthNow_0 11 rfl rfl)
theorem dX6_worthNow_12 : decode cX6_worthNow 12 = .ok (.idiv, 1) := dk_108 (dk_at dksX6_worthNow_0 12 rfl rfl)
theorem dX6_worthNow_13 : decode cX6_worthNow 13 = .ok (.iaload, 1) := dk_46 (dk_at dksX6_worthNow_0 13 rfl rfl)
theorem dX6_worthNow_14 : decode cX6_worthNow 14 = .ok (.aload_n 0, 1) := dk_42 (dk_at dksX6_worthNow_0 14 rfl rfl)
theorem dX6_worthNow_15 : decode cX6_worthNow 15 = .ok (.getfield 105, 3) := dk_180 0 105 (dk_at dksX6_worthNow_0 15 rfl rfl)
theorem dX6_worthNow_18 : decode cX6_worthNow 18 = .ok (.iconst 4, 1) := dk_7 (dk_at dksX6_worthNow_0 18 rfl rfl)
theorem dX6_worthNow_19 : decode cX6_worthNow 19 = .ok (.idiv, 1) := dk_108 (dk_at dksX6_worthNow_0 19 rfl rfl)
theorem dX6_worthNow_20 : decode cX6_worthNow 20 = .ok (.invokevirtual 261, 3) := dk_182 1 5 (dk_at dksX6_worthNow_0 20 rfl rfl)
theorem dX6_worthNow_23 : decode cX6_worthNow 23 = .ok (.aload_n 0, 1) := dk_42 (dk_at dksX6_worthNow_0 23 rfl rfl)
theorem dX6_worthNow_24 : decode cX6_worthNow 24 = .ok (.getfield 105, 3) := dk_180 0 105 (dk_at dksX6_worthNow_1 0 rfl rfl)
theorem dX6_worthNow_27 : decode cX6_worthNow 27 = .ok (.iconst 4, 1) := dk_7 (dk_at dksX6_worthNow_1 3 rfl rfl)
theorem dX6_worthNow_28 : decode cX6_worthNow 28 = .ok (.irem, 1) := dk_112 (dk_at dksX6_worthNow_1 4 rfl rfl)
theorem dX6_worthNow_29 : decode cX6_worthNow 29 = .ok (.invokevirtual 328, 3) := dk_182 1 72 (dk_at dksX6_worthNow_1 5 rfl rfl)
theorem dX6_worthNow_32 : decode cX6_worthNow 32 = .ok (.ireturn, 1) := dk_172 (dk_at dksX6_worthNow_1 8 rfl rfl)
theorem q140 : (Jvm.Cond.initialized "ExemptDesk$Books") ∈ lw_all := lw_g (lw_at lw_m1 18 rfl) rfl
theorem q219 : (Jvm.Cond.selects "ExemptDesk$Books" ({ cls := "java/lang/Object", name := "getClass", desc := "()Ljava/lang/Class;" } : Jvm.MethodName) ({ cls := "java/lang/Object", name := "getClass", desc := "()Ljava/lang/Class;" } : Jvm.MethodName)) ∈ lw_all := lw_g (lw_at lw_m1 97 rfl) rfl
theorem q388 : (Jvm.Cond.fieldLinkNest "ExemptDesk$Books" (155 : Nat) "ExemptDesk$Text" "sales" "Ljava/util/LinkedList;" "ExemptDesk") ∈ lw_tbl := lw_at lw_m2 26 rfl
theorem q392 : (Jvm.Cond.fieldLinkNest "ExemptDesk$Books" (163 : Nat) "ExemptDesk$Text" "buys" "Ljava/util/LinkedList;" "ExemptDesk") ∈ lw_tbl := lw_at lw_m2 30 rfl
theorem q396 : (Jvm.Cond.fieldLinkNest "ExemptDesk$Books" (166 : Nat) "ExemptDesk$Text" "assets" "Ljava/util/LinkedList;" "ExemptDesk") ∈ lw_tbl := lw_at lw_m2 34 rfl
theorem q400 : (Jvm.Cond.fieldLinkNest "ExemptDesk$Books" (215 : Nat) "ExemptDesk$Text" "way" "I" "ExemptDesk") ∈ lw_tbl := lw_at lw_m2 38 rfl
theorem q405 : (Jvm.Cond.fieldLinkNest "ExemptDesk$Books" (234 : Nat) "ExemptDesk$Text" "step" "I" "ExemptDesk") ∈ lw_tbl := lw_at lw_m2 43 rfl
theorem q409 : (Jvm.Cond.fieldLinkNest "ExemptDesk$Books" (264 : Nat) "ExemptDesk$Text" "limit" "I" "ExemptDesk") ∈ lw_tbl := lw_at lw_m2 47 rfl
theorem q443 : (Jvm.Cond.instantiable "ExemptDesk$Books" (16 : Nat)) ∈ lw_all := lw_g (lw_at lw_m2 81 rfl) rfl
theorem q445 : (Jvm.Cond.instanceMethod ({ cls := "ExemptDesk$Books", name := "<init>", desc := "(LExemptDesk;)V" } : Jvm.MethodName)) ∈ lw_all := lw_g (lw_at lw_m2 83 rfl) rfl
theorem q446 : (Jvm.Cond.code ({ cls := "ExemptDesk$Books", name := "<init>", desc := "(LExemptDesk;)V" } : Jvm.MethodName) prog_3_method_1_code (4 : Nat) (Option.none : Option Jvm.ClassFile.FieldType)) ∈ lw_all := lw_g (lw_at lw_m2 84 rfl) rfl
theorem q447 : (Jvm.Cond.methodLink "ExemptDesk$Books" (9 : Nat) ({ cls := "java/lang/Object", name := "<init>", desc := "()V" } : Jvm.MethodName)) ∈ lw_all := lw_g (lw_at lw_m2 85 rfl) rfl
theorem q448 : (Jvm.Cond.classLink "ExemptDesk$Books" (15 : Nat) "[[LExemptDesk$Sums;") ∈ lw_all := lw_g (lw_at lw_m2 86 rfl) rfl
theorem q452 : (Jvm.Cond.classLink "ExemptDesk$Books" (20 : Nat) "[[I") ∈ lw_all := lw_g (lw_at lw_m2 90 rfl) rfl
theorem q454 : (Jvm.Cond.classLink "ExemptDesk$Books" (44 : Nat) "java/util/LinkedList") ∈ lw_all := lw_g (lw_at lw_m2 92 rfl) rfl
theorem q455 : (Jvm.Cond.methodLink "ExemptDesk$Books" (46 : Nat) ({ cls := "java/util/LinkedList", name := "<init>", desc := "()V" } : Jvm.MethodName)) ∈ lw_all := lw_g (lw_at lw_m2 93 rfl) rfl
theorem q456 : (Jvm.Cond.classLink "ExemptDesk$Books" (54 : Nat) "java/util/ArrayDeque") ∈ lw_all := lw_g (lw_at lw_m2 94 rfl) rfl
theorem q458 : (Jvm.Cond.methodLink "ExemptDesk$Books" (56 : Nat) ({ cls := "java/util/ArrayDeque", name := "<init>", desc := "()V" } : Jvm.MethodName)) ∈ lw_all := lw_g (lw_at lw_m2 96 rfl) rfl
theorem q476 : (Jvm.Cond.classLink "ExemptDesk$Books" (61 : Nat) "java/util/BitSet") ∈ lw_all := lw_g (lw_at lw_m2 114 rfl) rfl
theorem q478 : (Jvm.Cond.methodLink "ExemptDesk$Books" (63 : Nat) ({ cls := "java/util/BitSet", name := "<init>", desc := "()V" } : Jvm.MethodName)) ∈ lw_all := lw_g (lw_at lw_m2 116 rfl) rfl
theorem q500 : (Jvm.Cond.classLink "ExemptDesk$Books" (68 : Nat) "ExemptDesk$Sums") ∈ lw_all := lw_g (lw_at lw_m2 138 rfl) rfl
theorem q502 : (Jvm.Cond.methodLinkNest "ExemptDesk$Books" (70 : Nat) ({ cls := "ExemptDesk$Sums", name := "<init>", desc := "()V" } : Jvm.MethodName) "ExemptDesk") ∈ lw_tbl := lw_at lw_m2 140 rfl
theorem q508 : (Jvm.Cond.fieldLinkNest "ExemptDesk$Books" (189 : Nat) "ExemptDesk$Sums" "of" "[J" "ExemptDesk") ∈ lw_tbl := lw_at lw_m2 146 rfl
theorem q513 : (Jvm.Cond.fieldLink "ExemptDesk$Books" (17 : Nat) "ExemptDesk$Books" "sums" "[[LExemptDesk$Sums;") ∈ lw_all := lw_g (lw_at lw_m2 151 rfl) rfl
theorem q515 : (Jvm.Cond.fieldLink "ExemptDesk$Books" (22 : Nat) "ExemptDesk$Books" "provisional" "[[I") ∈ lw_all := lw_g (lw_at lw_m2 153 rfl) rfl
theorem q516 : (Jvm.Cond.fieldLink "ExemptDesk$Books" (25 : Nat) "ExemptDesk$Books" "recovered" "[[I") ∈ lw_all := lw_g (lw_at lw_m2 154 rfl) rfl
theorem q518 : (Jvm.Cond.fieldLink "ExemptDesk$Books" (28 : Nat) "ExemptDesk$Books" "annual" "[[I") ∈ lw_all := lw_g (lw_at lw_m2 156 rfl) rfl
theorem q520 : (Jvm.Cond.fieldLink "ExemptDesk$Books" (31 : Nat) "ExemptDesk$Books" "trued" "[[I") ∈ lw_all := lw_g (lw_at lw_m2 158 rfl) rfl
theorem q522 : (Jvm.Cond.fieldLink "ExemptDesk$Books" (34 : Nat) "ExemptDesk$Books" "own" "[I") ∈ lw_all := lw_g (lw_at lw_m2 160 rfl) rfl
theorem q524 : (Jvm.Cond.fieldLink "ExemptDesk$Books" (38 : Nat) "ExemptDesk$Books" "all" "[I") ∈ lw_all := lw_g (lw_at lw_m2 162 rfl) rfl
theorem q526 : (Jvm.Cond.fieldLink "ExemptDesk$Books" (41 : Nat) "ExemptDesk$Books" "totals" "[[I") ∈ lw_all := lw_g (lw_at lw_m2 164 rfl) rfl
theorem q528 : (Jvm.Cond.fieldLink "ExemptDesk$Books" (47 : Nat) "ExemptDesk$Books" "assets" "Ljava/util/LinkedList;") ∈ lw_all := lw_g (lw_at lw_m2 166 rfl) rfl
theorem q530 : (Jvm.Cond.fieldLink "ExemptDesk$Books" (51 : Nat) "ExemptDesk$Books" "standing" "Ljava/util/LinkedList;") ∈ lw_all := lw_g (lw_at lw_m2 168 rfl) rfl
theorem q532 : (Jvm.Cond.fieldLink "ExemptDesk$Books" (57 : Nat) "ExemptDesk$Books" "booked" "Ljava/util/ArrayDeque;") ∈ lw_all := lw_g (lw_at lw_m2 170 rfl) rfl
theorem q534 : (Jvm.Cond.fieldLink "ExemptDesk$Books" (64 : Nat) "ExemptDesk$Books" "shut" "Ljava/util/BitSet;") ∈ lw_all := lw_g (lw_at lw_m2 172 rfl) rfl
theorem q536 : (Jvm.Cond.fieldLink "ExemptDesk$Books" (71 : Nat) "ExemptDesk$Books" "year" "LExemptDesk$Sums;") ∈ lw_all := lw_g (lw_at lw_m2 174 rfl) rfl
theorem q537 : (Jvm.Cond.fieldLink "ExemptDesk$Books" (105 : Nat) "ExemptDesk$Books" "now" "I") ∈ lw_all := lw_g (lw_at lw_m2 175 rfl) rfl
theorem q539 : (Jvm.Cond.fieldLink "ExemptDesk$Books" (108 : Nat) "ExemptDesk$Books" "entries" "I") ∈ lw_all := lw_g (lw_at lw_m2 177 rfl) rfl
theorem q541 : (Jvm.Cond.fieldLink "ExemptDesk$Books" (3 : Nat) "ExemptDesk$Books" "this$0" "LExemptDesk;") ∈ lw_all := lw_g (lw_at lw_m2 179 rfl) rfl
theorem q542 : (Jvm.Cond.laysFinal "ExemptDesk$Books" "ExemptDesk$Books" "sums" "[[LExemptDesk$Sums;") ∈ lw_all := lw_g (lw_at lw_m2 180 rfl) rfl
theorem q543 : (Jvm.Cond.soleField "ExemptDesk$Books" "sums") ∈ lw_all := lw_g (lw_at lw_m2 181 rfl) rfl
theorem q544 : (Jvm.Cond.laysFinal "ExemptDesk$Books" "ExemptDesk$Books" "provisional" "[[I") ∈ lw_all := lw_g (lw_at lw_m2 182 rfl) rfl
theorem q545 : (Jvm.Cond.soleField "ExemptDesk$Books" "provisional") ∈ lw_all := lw_g (lw_at lw_m2 183 rfl) rfl
theorem q546 : (Jvm.Cond.laysFinal "ExemptDesk$Books" "ExemptDesk$Books" "recovered" "[[I") ∈ lw_all := lw_g (lw_at lw_m2 184 rfl) rfl
theorem q547 : (Jvm.Cond.soleField "ExemptDesk$Books" "recovered") ∈ lw_all := lw_g (lw_at lw_m2 185 rfl) rfl
theorem q548 : (Jvm.Cond.laysFinal "ExemptDesk$Books" "ExemptDesk$Books" "annual" "[[I") ∈ lw_all := lw_g (lw_at lw_m2 186 rfl) rfl
theorem q549 : (Jvm.Cond.soleField "ExemptDesk$Books" "annual") ∈ lw_all := lw_g (lw_at lw_m2 187 rfl) rfl
theorem q550 : (Jvm.Cond.laysFinal "ExemptDesk$Books" "ExemptDesk$Books" "trued" "[[I") ∈ lw_all := lw_g (lw_at lw_m2 188 rfl) rfl
theorem q551 : (Jvm.Cond.soleField "ExemptDesk$Books" "trued") ∈ lw_all := lw_g (lw_at lw_m2 189 rfl) rfl
theorem q552 : (Jvm.Cond.laysFinal "ExemptDesk$Books" "ExemptDesk$Books" "own" "[I") ∈ lw_all := lw_g (lw_at lw_m2 190 rfl) rfl
theorem q553 : (Jvm.Cond.soleField "ExemptDesk$Books" "own") ∈ lw_all := lw_g (lw_at lw_m2 191 rfl) rfl
theorem q554 : (Jvm.Cond.laysFinal "ExemptDesk$Books" "ExemptDesk$Books" "all" "[I") ∈ lw_all := lw_g (lw_at lw_m2 192 rfl) rfl
theorem q555 : (Jvm.Cond.soleField "ExemptDesk$Books" "all") ∈ lw_all := lw_g (lw_at lw_m2 193 rfl) rfl
theorem q556 : (Jvm.Cond.laysFinal "ExemptDesk$Books" "ExemptDesk$Books" "totals" "[[I") ∈ lw_all := lw_g (lw_at lw_m2 194 rfl) rfl
theorem q557 : (Jvm.Cond.soleField "ExemptDesk$Books" "totals") ∈ lw_all := lw_g (lw_at lw_m2 195 rfl) rfl
theorem q558 : (Jvm.Cond.laysFinal "ExemptDesk$Books" "ExemptDesk$Books" "assets" "Ljava/util/LinkedList;") ∈ lw_all := lw_g (lw_at lw_m2 196 rfl) rfl
theorem q559 : (Jvm.Cond.soleField "ExemptDesk$Books" "assets") ∈ lw_all := lw_g (lw_at lw_m2 197 rfl) rfl
theorem q560 : (Jvm.Cond.laysFinal "ExemptDesk$Books" "ExemptDesk$Books" "standing" "Ljava/util/LinkedList;") ∈ lw_all := lw_g (lw_at lw_m2 198 rfl) rfl
theorem q561 : (Jvm.Cond.soleField "ExemptDesk$Books" "standing") ∈ lw_all := lw_g (lw_at lw_m2 199 rfl) rfl
theorem q562 : (Jvm.Cond.laysFinal "ExemptDesk$Books" "ExemptDesk$Books" "booked" "Ljava/util/ArrayDeque;") ∈ lw_all := lw_g (lw_at lw_m2 200 rfl) rfl
theorem q563 : (Jvm.Cond.soleField "ExemptDesk$Books" "booked") ∈ lw_all := lw_g (lw_at lw_m2 201 rfl) rfl
theorem q564 : (Jvm.Cond.laysFinal "ExemptDesk$Books" "ExemptDesk$Books" "shut" "Ljava/util/BitSet;") ∈ lw_all := lw_g (lw_at lw_m2 202 rfl) rfl
theorem q565 : (Jvm.Cond.soleField "ExemptDesk$Books" "shut") ∈ lw_all := lw_g (lw_at lw_m2 203 rfl) rfl
theorem q566 : (Jvm.Cond.laysFinal "ExemptDesk$Books" "ExemptDesk$Books" "year" "LExemptDesk$Sums;") ∈ lw_all := lw_g (lw_at lw_m2 204 rfl) rfl
theorem q567 : (Jvm.Cond.soleField "ExemptDesk$Books" "year") ∈ lw_all := lw_g (lw_at lw_m2 205 rfl) rfl
theorem q568 : (Jvm.Cond.lays "ExemptDesk$Books" "ExemptDesk$Books" "now" "I") ∈ lw_all := lw_g (lw_at lw_m2 206 rfl) rfl
theorem q569 : (Jvm.Cond.soleField "ExemptDesk$Books" "now") ∈ lw_all := lw_g (lw_at lw_m2 207 rfl) rfl
theorem q570 : (Jvm.Cond.lays "ExemptDesk$Books" "ExemptDesk$Books" "entries" "I") ∈ lw_all := lw_g (lw_at lw_m2 208 rfl) rfl
theorem q571 : (Jvm.Cond.soleField "ExemptDesk$Books" "entries") ∈ lw_all := lw_g (lw_at lw_m2 209 rfl) rfl
theorem q572 : (Jvm.Cond.laysFinal "ExemptDesk$Books" "ExemptDesk$Books" "this$0" "LExemptDesk;") ∈ lw_all := lw_g (lw_at lw_m2 210 rfl) rfl
theorem q573 : (Jvm.Cond.soleField "ExemptDesk$Books" "this$0") ∈ lw_all := lw_g (lw_at lw_m2 211 rfl) rfl
theorem q574 : (Jvm.Cond.superclass "ExemptDesk$Books" "java/lang/Object") ∈ lw_all := lw_g (lw_at lw_m2 212 rfl) rfl
theorem q576 : (Jvm.Cond.instanceMethod ({ cls := "ExemptDesk$Books", name := "begin", desc := "()LExemptDesk$Books;" } : Jvm.MethodName)) ∈ lw_all := lw_g (lw_at lw_m2 214 rfl) rfl
theorem q577 : (Jvm.Cond.selects "ExemptDesk$Books" ({ cls := "ExemptDesk$Books", name := "begin", desc := "()LExemptDesk$Books;" } : Jvm.MethodName) ({ cls := "ExemptDesk$Books", name := "begin", desc := "()LExemptDesk$Books;" } : Jvm.MethodName)) ∈ lw_all := lw_g (lw_at lw_m2 215 rfl) rfl
theorem q578 : (Jvm.Cond.code ({ cls := "ExemptDesk$Books", name := "begin", desc := "()LExemptDesk$Books;" } : Jvm.MethodName) prog_3_method_2_code (2 : Nat) (Option.some (Jvm.ClassFile.FieldType.object "ExemptDesk$Books"))) ∈ lw_all := lw_g (lw_at lw_m2 216 rfl) rfl
theorem q579 : (Jvm.Cond.methodLink "ExemptDesk$Books" (79 : Nat) ({ cls := "ExemptDesk$Text", name := "many", desc := "()I" } : Jvm.MethodName)) ∈ lw_all := lw_g (lw_at lw_m2 217 rfl) rfl
theorem q587 : (Jvm.Cond.methodLink "ExemptDesk$Books" (85 : Nat) ({ cls := "ExemptDesk$Text", name := "trader", desc := "(I)LExemptDesk$Trader;" } : Jvm.MethodName)) ∈ lw_all := lw_g (lw_at lw_m2 225 rfl) rfl
theorem q917 : (Jvm.Cond.methodLink "ExemptDesk$Books" (94 : Nat) ({ cls := "java/lang/Math", name := "max", desc := "(II)I" } : Jvm.MethodName)) ∈ lw_all := lw_g (lw_at lw_m4 75 rfl) rfl
theorem q918 : (Jvm.Cond.methodLink "ExemptDesk$Books" (102 : Nat) ({ cls := "ExemptDesk$Books", name := "comes", desc := "()V" } : Jvm.MethodName)) ∈ lw_all := lw_g (lw_at lw_m4 76 rfl) rfl
theorem q919 : (Jvm.Cond.privateMethod ({ cls := "ExemptDesk$Books", name := "comes", desc := "()V" } : Jvm.MethodName)) ∈ lw_tbl := lw_at lw_m4 77 rfl
theorem q920 : (Jvm.Cond.instanceMethod ({ cls := "ExemptDesk$Books", name := "comes", desc := "()V" } : Jvm.MethodName)) ∈ lw_all := lw_g (lw_at lw_m4 78 rfl) rfl
theorem q921 : (Jvm.Cond.code ({ cls := "ExemptDesk$Books", name := "comes", desc := "()V" } : Jvm.MethodName) prog_3_method_4_code (3 : Nat) (Option.none : Option Jvm.ClassFile.FieldType)) ∈ lw_all := lw_g (lw_at lw_m4 79 rfl) rfl
theorem q922 : (Jvm.Cond.methodLink "ExemptDesk$Books" (118 : Nat) ({ cls := "java/util/LinkedList", name := "iterator", desc := "()Ljava/util/Iterator;" } : Jvm.MethodName)) ∈ lw_all := lw_g (lw_at lw_m4 80 rfl) rfl
theorem q972 : (Jvm.Cond.interfaceEntry "ExemptDesk$Books" (122 : Nat)) ∈ lw_tbl := lw_at lw_m4 130 rfl
theorem q973 : (Jvm.Cond.methodLink "ExemptDesk$Books" (122 : Nat) ({ cls := "java/util/Iterator", name := "hasNext", desc := "()Z" } : Jvm.MethodName)) ∈ lw_all := lw_g (lw_at lw_m4 131 rfl) rfl
theorem q998 : (Jvm.Cond.interfaceEntry "ExemptDesk$Books" (128 : Nat)) ∈ lw_tbl := lw_at lw_m4 156 rfl
theorem q999 : (Jvm.Cond.methodLink "ExemptDesk$Books" (128 : Nat) ({ cls := "java/util/Iterator", name := "next", desc := "()Ljava/lang/Object;" } : Jvm.MethodName)) ∈ lw_all := lw_g (lw_at lw_m4 157 rfl) rfl
theorem q1109 : (Jvm.Cond.classLink "ExemptDesk$Books" (158 : Nat) "ExemptDesk$Told") ∈ lw_all := lw_g (lw_at lw_m5 27 rfl) rfl
theorem q1110 : (Jvm.Cond.methodLink "ExemptDesk$Books" (160 : Nat) ({ cls := "ExemptDesk$Books", name := "comes", desc := "(LExemptDesk$Told;I)V" } : Jvm.MethodName)) ∈ lw_all := lw_g (lw_at lw_m5 28 rfl) rfl
theorem q1111 : (Jvm.Cond.privateMethod ({ cls := "ExemptDesk$Books", name := "comes", desc := "(LExemptDesk$Told;I)V" } : Jvm.MethodName)) ∈ lw_tbl := lw_at lw_m5 29 rfl
theorem q1112 : (Jvm.Cond.instanceMethod ({ cls := "ExemptDesk$Books", name := "comes", desc := "(LExemptDesk$Told;I)V" } : Jvm.MethodName)) ∈ lw_all := lw_g (lw_at lw_m5 30 rfl) rfl
theorem q1113 : (Jvm.Cond.code ({ cls := "ExemptDesk$Books", name := "comes", desc := "(LExemptDesk$Told;I)V" } : Jvm.MethodName) prog_3_method_6_code (3 : Nat) (Option.none : Option Jvm.ClassFile.FieldType)) ∈ lw_all := lw_g (lw_at lw_m5 31 rfl) rfl
theorem q1114 : (Jvm.Cond.classLink "ExemptDesk$Books" (167 : Nat) "ExemptDesk$ToldAsset") ∈ lw_all := lw_g (lw_at lw_m5 32 rfl) rfl
theorem q1115 : (Jvm.Cond.methodLink "ExemptDesk$Books" (172 : Nat) ({ cls := "java/util/LinkedList", name := "size", desc := "()I" } : Jvm.MethodName)) ∈ lw_all := lw_g (lw_at lw_m5 33 rfl) rfl
theorem q1116 : (Jvm.Cond.methodLink "ExemptDesk$Books" (186 : Nat) ({ cls := "ExemptDesk$Books", name := "buys", desc := "(IIII)V" } : Jvm.MethodName)) ∈ lw_all := lw_g (lw_at lw_m5 34 rfl) rfl
theorem q1117 : (Jvm.Cond.instanceMethod ({ cls := "ExemptDesk$Books", name := "buys", desc := "(IIII)V" } : Jvm.MethodName)) ∈ lw_all := lw_g (lw_at lw_m5 35 rfl) rfl
theorem q1118 : (Jvm.Cond.selects "ExemptDesk$Books" ({ cls := "ExemptDesk$Books", name := "buys", desc := "(IIII)V" } : Jvm.MethodName) ({ cls := "ExemptDesk$Books", name := "buys", desc := "(IIII)V" } : Jvm.MethodName)) ∈ lw_all := lw_g (lw_at lw_m5 36 rfl) rfl
theorem q1119 : (Jvm.Cond.code ({ cls := "ExemptDesk$Books", name := "buys", desc := "(IIII)V" } : Jvm.MethodName) prog_3_method_5_code (5 : Nat) (Option.none : Option Jvm.ClassFile.FieldType)) ∈ lw_all := lw_g (lw_at lw_m5 37 rfl) rfl
theorem q1120 : (Jvm.Cond.classLink "ExemptDesk$Books" (132 : Nat) "ExemptDesk$Asset") ∈ lw_all := lw_g (lw_at lw_m5 38 rfl) rfl
theorem q1122 : (Jvm.Cond.methodLink "ExemptDesk$Books" (193 : Nat) ({ cls := "ExemptDesk$Asset", name := "<init>", desc := "(IIIIII)V" } : Jvm.MethodName)) ∈ lw_all := lw_g (lw_at lw_m5 40 rfl) rfl
theorem q1129 : (Jvm.Cond.fieldLinkNest "ExemptDesk$Books" (307 : Nat) "ExemptDesk$Asset" "number" "I" "ExemptDesk") ∈ lw_tbl := lw_at lw_m5 47 rfl
theorem q1132 : (Jvm.Cond.fieldLinkNest "ExemptDesk$Books" (376 : Nat) "ExemptDesk$Asset" "tax" "I" "ExemptDesk") ∈ lw_tbl := lw_at lw_m5 50 rfl
theorem q1135 : (Jvm.Cond.fieldLinkNest "ExemptDesk$Books" (349 : Nat) "ExemptDesk$Asset" "intervals" "I" "ExemptDesk") ∈ lw_tbl := lw_at lw_m5 53 rfl
theorem q1139 : (Jvm.Cond.fieldLinkNest "ExemptDesk$Books" (316 : Nat) "ExemptDesk$Asset" "first" "I" "ExemptDesk") ∈ lw_tbl := lw_at lw_m5 57 rfl
theorem q1143 : (Jvm.Cond.fieldLinkNest "ExemptDesk$Books" (319 : Nat) "ExemptDesk$Asset" "owner" "[I" "ExemptDesk") ∈ lw_tbl := lw_at lw_m5 61 rfl
theorem q1145 : (Jvm.Cond.fieldLinkNest "ExemptDesk$Books" (325 : Nat) "ExemptDesk$Asset" "worth" "[I" "ExemptDesk") ∈ lw_tbl := lw_at lw_m5 63 rfl
theorem q1148 : (Jvm.Cond.fieldLinkNest "ExemptDesk$Books" (335 : Nat) "ExemptDesk$Asset" "adjusted" "[I" "ExemptDesk") ∈ lw_tbl := lw_at lw_m5 66 rfl
theorem q1151 : (Jvm.Cond.fieldLinkNest "ExemptDesk$Books" (288 : Nat) "ExemptDesk$Asset" "use" "I" "ExemptDesk") ∈ lw_tbl := lw_at lw_m5 69 rfl
theorem q1155 : (Jvm.Cond.fieldLinkNest "ExemptDesk$Books" (332 : Nat) "ExemptDesk$Asset" "base" "I" "ExemptDesk") ∈ lw_tbl := lw_at lw_m5 73 rfl
theorem q1158 : (Jvm.Cond.fieldLinkNest "ExemptDesk$Books" (342 : Nat) "ExemptDesk$Asset" "sold" "I" "ExemptDesk") ∈ lw_tbl := lw_at lw_m5 76 rfl
theorem q1160 : (Jvm.Cond.fieldLinkNest "ExemptDesk$Books" (357 : Nat) "ExemptDesk$Asset" "cap" "I" "ExemptDesk") ∈ lw_tbl := lw_at lw_m5 78 rfl
theorem q1164 : (Jvm.Cond.fieldLinkNest "ExemptDesk$Books" (360 : Nat) "ExemptDesk$Asset" "nextOwner" "I" "ExemptDesk") ∈ lw_tbl := lw_at lw_m5 82 rfl
theorem q1166 : (Jvm.Cond.fieldLinkNest "ExemptDesk$Books" (354 : Nat) "ExemptDesk$Asset" "last" "I" "ExemptDesk") ∈ lw_tbl := lw_at lw_m5 84 rfl
theorem q1169 : (Jvm.Cond.fieldLinkNest "ExemptDesk$Books" (322 : Nat) "ExemptDesk$Asset" "through" "I" "ExemptDesk") ∈ lw_tbl := lw_at lw_m5 87 rfl
theorem q1172 : (Jvm.Cond.fieldLinkNest "ExemptDesk$Books" (285 : Nat) "ExemptDesk$Asset" "uses" "[I" "ExemptDesk") ∈ lw_tbl := lw_at lw_m5 90 rfl
theorem q1174 : (Jvm.Cond.fieldLinkNest "ExemptDesk$Books" (203 : Nat) "ExemptDesk$Asset" "isShut" "Z" "ExemptDesk") ∈ lw_tbl := lw_at lw_m5 92 rfl
theorem q1211 : (Jvm.Cond.methodLink "ExemptDesk$Books" (138 : Nat) ({ cls := "ExemptDesk$Books", name := "add", desc := "(LExemptDesk$Asset;)V" } : Jvm.MethodName)) ∈ lw_all := lw_g (lw_at lw_m5 129 rfl) rfl
theorem q1212 : (Jvm.Cond.privateMethod ({ cls := "ExemptDesk$Books", name := "add", desc := "(LExemptDesk$Asset;)V" } : Jvm.MethodName)) ∈ lw_tbl := lw_at lw_m5 130 rfl
theorem q1213 : (Jvm.Cond.instanceMethod ({ cls := "ExemptDesk$Books", name := "add", desc := "(LExemptDesk$Asset;)V" } : Jvm.MethodName)) ∈ lw_all := lw_g (lw_at lw_m5 131 rfl) rfl
theorem q1214 : (Jvm.Cond.code ({ cls := "ExemptDesk$Books", name := "add", desc := "(LExemptDesk$Asset;)V" } : Jvm.MethodName) prog_3_method_7_code (2 : Nat) (Option.none : Option Jvm.ClassFile.FieldType)) ∈ lw_all := lw_g (lw_at lw_m5 132 rfl) rfl
theorem q1215 : (Jvm.Cond.methodLink "ExemptDesk$Books" (200 : Nat) ({ cls := "java/util/LinkedList", name := "add", desc := "(Ljava/lang/Object;)Z" } : Jvm.MethodName)) ∈ lw_all := lw_g (lw_at lw_m5 133 rfl) rfl
theorem q1249 : (Jvm.Cond.fieldLinkNest "ExemptDesk$Books" (211 : Nat) "ExemptDesk" "ways" "Ljava/util/List;" "ExemptDesk") ∈ lw_tbl := lw_at lw_m5 167 rfl
theorem q1251 : (Jvm.Cond.fieldLinkNest "ExemptDesk$Books" (226 : Nat) "ExemptDesk" "methods" "Ljava/util/List;" "ExemptDesk") ∈ lw_tbl := lw_at lw_m5 169 rfl
theorem q1255 : (Jvm.Cond.fieldLinkNest "ExemptDesk$Books" (75 : Nat) "ExemptDesk" "told" "LExemptDesk$Text;" "ExemptDesk") ∈ lw_tbl := lw_at lw_m5 173 rfl
theorem q1437 : (Jvm.Cond.fieldLinkNest "ExemptDesk$Books" (229 : Nat) "ExemptDesk$Trader" "method" "I" "ExemptDesk") ∈ lw_tbl := lw_at lw_m6 115 rfl
theorem q1440 : (Jvm.Cond.fieldLinkNest "ExemptDesk$Books" (252 : Nat) "ExemptDesk$Trader" "basis" "I" "ExemptDesk") ∈ lw_tbl := lw_at lw_m6 118 rfl
theorem q1443 : (Jvm.Cond.fieldLinkNest "ExemptDesk$Books" (89 : Nat) "ExemptDesk$Trader" "own" "I" "ExemptDesk") ∈ lw_tbl := lw_at lw_m6 121 rfl
theorem q1445 : (Jvm.Cond.fieldLinkNest "ExemptDesk$Books" (100 : Nat) "ExemptDesk$Trader" "all" "I" "ExemptDesk") ∈ lw_tbl := lw_at lw_m6 123 rfl
theorem q1448 : (Jvm.Cond.fieldLinkNest "ExemptDesk$Books" (255 : Nat) "ExemptDesk$Trader" "start" "I" "ExemptDesk") ∈ lw_tbl := lw_at lw_m6 126 rfl
theorem q1498 : (Jvm.Cond.fieldLink "ExemptDesk$Books" (175 : Nat) "ExemptDesk$ToldAsset" "trader" "I") ∈ lw_all := lw_g (lw_at lw_m6 176 rfl) rfl
theorem q1500 : (Jvm.Cond.fieldLink "ExemptDesk$Books" (197 : Nat) "ExemptDesk$Told" "trader" "I") ∈ lw_all := lw_g (lw_at lw_m6 178 rfl) rfl
theorem q1503 : (Jvm.Cond.fieldLink "ExemptDesk$Books" (169 : Nat) "ExemptDesk$ToldAsset" "quarter" "I") ∈ lw_all := lw_g (lw_at lw_m6 181 rfl) rfl
theorem q1505 : (Jvm.Cond.fieldLink "ExemptDesk$Books" (196 : Nat) "ExemptDesk$Told" "quarter" "I") ∈ lw_all := lw_g (lw_at lw_m6 183 rfl) rfl
theorem q1508 : (Jvm.Cond.fieldLink "ExemptDesk$Books" (177 : Nat) "ExemptDesk$ToldAsset" "kind" "I") ∈ lw_all := lw_g (lw_at lw_m6 186 rfl) rfl
theorem q1510 : (Jvm.Cond.fieldLink "ExemptDesk$Books" (198 : Nat) "ExemptDesk$Told" "kind" "I") ∈ lw_all := lw_g (lw_at lw_m6 188 rfl) rfl
theorem q1513 : (Jvm.Cond.fieldLink "ExemptDesk$Books" (180 : Nat) "ExemptDesk$ToldAsset" "amount" "I") ∈ lw_all := lw_g (lw_at lw_m6 191 rfl) rfl
theorem q1515 : (Jvm.Cond.fieldLink "ExemptDesk$Books" (199 : Nat) "ExemptDesk$Told" "amount" "I") ∈ lw_all := lw_g (lw_at lw_m6 193 rfl) rfl
theorem q1540 : (Jvm.Cond.fieldLinkNest "ExemptDesk$Books" (183 : Nat) "ExemptDesk$ToldAsset" "intervals" "I" "ExemptDesk") ∈ lw_tbl := lw_at lw_m6 218 rfl
theorem q1572 : (Jvm.Cond.instanceMethod ({ cls := "ExemptDesk$Books", name := "asset", desc := "(I)LExemptDesk$Asset;" } : Jvm.MethodName)) ∈ lw_all := lw_g (lw_at lw_m7 10 rfl) rfl
theorem q1573 : (Jvm.Cond.selects "ExemptDesk$Books" ({ cls := "ExemptDesk$Books", name := "asset", desc := "(I)LExemptDesk$Asset;" } : Jvm.MethodName) ({ cls := "ExemptDesk$Books", name := "asset", desc := "(I)LExemptDesk$Asset;" } : Jvm.MethodName)) ∈ lw_all := lw_g (lw_at lw_m7 11 rfl) rfl
theorem q1574 : (Jvm.Cond.code ({ cls := "ExemptDesk$Books", name := "asset", desc := "(I)LExemptDesk$Asset;" } : Jvm.MethodName) prog_3_method_8_code (2 : Nat) (Option.some (Jvm.ClassFile.FieldType.object "ExemptDesk$Asset"))) ∈ lw_all := lw_g (lw_at lw_m7 12 rfl) rfl
theorem q1575 : (Jvm.Cond.methodLink "ExemptDesk$Books" (207 : Nat) ({ cls := "java/util/LinkedList", name := "get", desc := "(I)Ljava/lang/Object;" } : Jvm.MethodName)) ∈ lw_all := lw_g (lw_at lw_m7 13 rfl) rfl
theorem q1585 : (Jvm.Cond.instanceMethod ({ cls := "ExemptDesk$Books", name := "firstOf", desc := "(LExemptDesk$Asset;)I" } : Jvm.MethodName)) ∈ lw_all := lw_g (lw_at lw_m7 23 rfl) rfl
theorem q1586 : (Jvm.Cond.selects "ExemptDesk$Books" ({ cls := "ExemptDesk$Books", name := "firstOf", desc := "(LExemptDesk$Asset;)I" } : Jvm.MethodName) ({ cls := "ExemptDesk$Books", name := "firstOf", desc := "(LExemptDesk$Asset;)I" } : Jvm.MethodName)) ∈ lw_all := lw_g (lw_at lw_m7 24 rfl) rfl
theorem q1587 : (Jvm.Cond.code ({ cls := "ExemptDesk$Books", name := "firstOf", desc := "(LExemptDesk$Asset;)I" } : Jvm.MethodName) prog_3_method_26_code (2 : Nat) (Option.some Jvm.ClassFile.FieldType.int)) ∈ lw_all := lw_g (lw_at lw_m7 25 rfl) rfl
theorem q1588 : (Jvm.Cond.methodLink "ExemptDesk$Books" (237 : Nat) ({ cls := "ExemptDesk$Books", name := "way", desc := "()LExemptDesk$Way;" } : Jvm.MethodName)) ∈ lw_all := lw_g (lw_at lw_m7 26 rfl) rfl
theorem q1589 : (Jvm.Cond.instanceMethod ({ cls := "ExemptDesk$Books", name := "way", desc := "()LExemptDesk$Way;" } : Jvm.MethodName)) ∈ lw_all := lw_g (lw_at lw_m7 27 rfl) rfl
theorem q1590 : (Jvm.Cond.selects "ExemptDesk$Books" ({ cls := "ExemptDesk$Books", name := "way", desc := "()LExemptDesk$Way;" } : Jvm.MethodName) ({ cls := "ExemptDesk$Books", name := "way", desc := "()LExemptDesk$Way;" } : Jvm.MethodName)) ∈ lw_all := lw_g (lw_at lw_m7 28 rfl) rfl
theorem q1591 : (Jvm.Cond.code ({ cls := "ExemptDesk$Books", name := "way", desc := "()LExemptDesk$Way;" } : Jvm.MethodName) prog_3_method_9_code (1 : Nat) (Option.some (Jvm.ClassFile.FieldType.object "ExemptDesk$Way"))) ∈ lw_all := lw_g (lw_at lw_m7 29 rfl) rfl
theorem q1592 : (Jvm.Cond.interfaceEntry "ExemptDesk$Books" (218 : Nat)) ∈ lw_tbl := lw_at lw_m7 30 rfl
theorem q1593 : (Jvm.Cond.methodLink "ExemptDesk$Books" (218 : Nat) ({ cls := "java/util/List", name := "get", desc := "(I)Ljava/lang/Object;" } : Jvm.MethodName)) ∈ lw_all := lw_g (lw_at lw_m7 31 rfl) rfl
theorem q1635 : (Jvm.Cond.classLink "ExemptDesk$Books" (221 : Nat) "ExemptDesk$Way") ∈ lw_all := lw_g (lw_at lw_m7 73 rfl) rfl
theorem q1636 : (Jvm.Cond.methodLink "ExemptDesk$Books" (368 : Nat) ({ cls := "ExemptDesk$Way", name := "cut", desc := "(JJ)I" } : Jvm.MethodName)) ∈ lw_all := lw_g (lw_at lw_m7 74 rfl) rfl
theorem q1669 : (Jvm.Cond.instanceMethod ({ cls := "ExemptDesk$Books", name := "be", desc := "(LExemptDesk$Books;)LExemptDesk$Books;" } : Jvm.MethodName)) ∈ lw_all := lw_g (lw_at lw_m7 107 rfl) rfl
theorem q1670 : (Jvm.Cond.selects "ExemptDesk$Books" ({ cls := "ExemptDesk$Books", name := "be", desc := "(LExemptDesk$Books;)LExemptDesk$Books;" } : Jvm.MethodName) ({ cls := "ExemptDesk$Books", name := "be", desc := "(LExemptDesk$Books;)LExemptDesk$Books;" } : Jvm.MethodName)) ∈ lw_all := lw_g (lw_at lw_m7 108 rfl) rfl
theorem q1671 : (Jvm.Cond.code ({ cls := "ExemptDesk$Books", name := "be", desc := "(LExemptDesk$Books;)LExemptDesk$Books;" } : Jvm.MethodName) prog_3_method_3_code (4 : Nat) (Option.some (Jvm.ClassFile.FieldType.object "ExemptDesk$Books"))) ∈ lw_all := lw_g (lw_at lw_m7 109 rfl) rfl
theorem q1672 : (Jvm.Cond.methodLink "ExemptDesk$Books" (111 : Nat) ({ cls := "ExemptDesk$Sums", name := "be", desc := "(LExemptDesk$Sums;)V" } : Jvm.MethodName)) ∈ lw_all := lw_g (lw_at lw_m7 110 rfl) rfl
theorem q1676 : (Jvm.Cond.methodLink "ExemptDesk$Books" (115 : Nat) ({ cls := "java/util/LinkedList", name := "clear", desc := "()V" } : Jvm.MethodName)) ∈ lw_all := lw_g (lw_at lw_m7 114 rfl) rfl
theorem q1677 : (Jvm.Cond.methodLink "ExemptDesk$Books" (134 : Nat) ({ cls := "ExemptDesk$Asset", name := "copy", desc := "()LExemptDesk$Asset;" } : Jvm.MethodName)) ∈ lw_all := lw_g (lw_at lw_m7 115 rfl) rfl
theorem q1683 : (Jvm.Cond.methodLink "ExemptDesk$Books" (142 : Nat) ({ cls := "java/util/ArrayDeque", name := "clear", desc := "()V" } : Jvm.MethodName)) ∈ lw_all := lw_g (lw_at lw_m7 121 rfl) rfl
theorem q1690 : (Jvm.Cond.methodLink "ExemptDesk$Books" (143 : Nat) ({ cls := "java/util/ArrayDeque", name := "iterator", desc := "()Ljava/util/Iterator;" } : Jvm.MethodName)) ∈ lw_all := lw_g (lw_at lw_m7 128 rfl) rfl
theorem q1720 : (Jvm.Cond.classLink "ExemptDesk$Books" (144 : Nat) "ExemptDesk$Entry") ∈ lw_all := lw_g (lw_at lw_m7 158 rfl) rfl
theorem q1721 : (Jvm.Cond.methodLink "ExemptDesk$Books" (146 : Nat) ({ cls := "java/util/ArrayDeque", name := "addLast", desc := "(Ljava/lang/Object;)V" } : Jvm.MethodName)) ∈ lw_all := lw_g (lw_at lw_m7 159 rfl) rfl
theorem q1746 : (Jvm.Cond.methodLink "ExemptDesk$Books" (150 : Nat) ({ cls := "java/util/BitSet", name := "clear", desc := "()V" } : Jvm.MethodName)) ∈ lw_all := lw_g (lw_at lw_m7 184 rfl) rfl
theorem q1750 : (Jvm.Cond.methodLink "ExemptDesk$Books" (151 : Nat) ({ cls := "java/util/BitSet", name := "or", desc := "(Ljava/util/BitSet;)V" } : Jvm.MethodName)) ∈ lw_all := lw_g (lw_at lw_m7 188 rfl) rfl
theorem q1832 : (Jvm.Cond.instanceMethod ({ cls := "ExemptDesk$Books", name := "close", desc := "()LExemptDesk$Books;" } : Jvm.MethodName)) ∈ lw_all := lw_g (lw_at lw_m8 30 rfl) rfl
theorem q1833 : (Jvm.Cond.selects "ExemptDesk$Books" ({ cls := "ExemptDesk$Books", name := "close", desc := "()LExemptDesk$Books;" } : Jvm.MethodName) ({ cls := "ExemptDesk$Books", name := "close", desc := "()LExemptDesk$Books;" } : Jvm.MethodName)) ∈ lw_all := lw_g (lw_at lw_m8 31 rfl) rfl
theorem q1834 : (Jvm.Cond.code ({ cls := "ExemptDesk$Books", name := "close", desc := "()LExemptDesk$Books;" } : Jvm.MethodName) prog_3_method_16_code (3 : Nat) (Option.some (Jvm.ClassFile.FieldType.object "ExemptDesk$Books"))) ∈ lw_all := lw_g (lw_at lw_m8 32 rfl) rfl
theorem q1835 : (Jvm.Cond.methodLink "ExemptDesk$Books" (281 : Nat) ({ cls := "ExemptDesk$Books", name := "closeOf", desc := "(I)V" } : Jvm.MethodName)) ∈ lw_all := lw_g (lw_at lw_m8 33 rfl) rfl
theorem q1836 : (Jvm.Cond.privateMethod ({ cls := "ExemptDesk$Books", name := "closeOf", desc := "(I)V" } : Jvm.MethodName)) ∈ lw_tbl := lw_at lw_m8 34 rfl
theorem q1837 : (Jvm.Cond.instanceMethod ({ cls := "ExemptDesk$Books", name := "closeOf", desc := "(I)V" } : Jvm.MethodName)) ∈ lw_all := lw_g (lw_at lw_m8 35 rfl) rfl
theorem q1838 : (Jvm.Cond.code ({ cls := "ExemptDesk$Books", name := "closeOf", desc := "(I)V" } : Jvm.MethodName) prog_3_method_17_code (2 : Nat) (Option.none : Option Jvm.ClassFile.FieldType)) ∈ lw_all := lw_g (lw_at lw_m8 36 rfl) rfl
theorem q1839 : (Jvm.Cond.methodLink "ExemptDesk$Books" (294 : Nat) ({ cls := "ExemptDesk$Books", name := "provisionalOf", desc := "(II)I" } : Jvm.MethodName)) ∈ lw_all := lw_g (lw_at lw_m8 37 rfl) rfl
theorem q1840 : (Jvm.Cond.instanceMethod ({ cls := "ExemptDesk$Books", name := "provisionalOf", desc := "(II)I" } : Jvm.MethodName)) ∈ lw_all := lw_g (lw_at lw_m8 38 rfl) rfl
theorem q1841 : (Jvm.Cond.selects "ExemptDesk$Books" ({ cls := "ExemptDesk$Books", name := "provisionalOf", desc := "(II)I" } : Jvm.MethodName) ({ cls := "ExemptDesk$Books", name := "provisionalOf", desc := "(II)I" } : Jvm.MethodName)) ∈ lw_all := lw_g (lw_at lw_m8 39 rfl) rfl
theorem q1842 : (Jvm.Cond.code ({ cls := "ExemptDesk$Books", name := "provisionalOf", desc := "(II)I" } : Jvm.MethodName) prog_3_method_13_code (4 : Nat) (Option.some Jvm.ClassFile.FieldType.int)) ∈ lw_all := lw_g (lw_at lw_m8 40 rfl) rfl
theorem q1843 : (Jvm.Cond.methodLink "ExemptDesk$Books" (248 : Nat) ({ cls := "ExemptDesk$Books", name := "fractionBy", desc := "(ILExemptDesk$Sums;)I" } : Jvm.MethodName)) ∈ lw_all := lw_g (lw_at lw_m8 41 rfl) rfl
theorem q1844 : (Jvm.Cond.privateMethod ({ cls := "ExemptDesk$Books", name := "fractionBy", desc := "(ILExemptDesk$Sums;)I" } : Jvm.MethodName)) ∈ lw_tbl := lw_at lw_m8 42 rfl
theorem q1845 : (Jvm.Cond.instanceMethod ({ cls := "ExemptDesk$Books", name := "fractionBy", desc := "(ILExemptDesk$Sums;)I" } : Jvm.MethodName)) ∈ lw_all := lw_g (lw_at lw_m8 43 rfl) rfl
theorem q1846 : (Jvm.Cond.code ({ cls := "ExemptDesk$Books", name := "fractionBy", desc := "(ILExemptDesk$Sums;)I" } : Jvm.MethodName) prog_3_method_11_code (3 : Nat) (Option.some Jvm.ClassFile.FieldType.int)) ∈ lw_all := lw_g (lw_at lw_m8 44 rfl) rfl
theorem q1847 : (Jvm.Cond.classLink "ExemptDesk$Books" (232 : Nat) "ExemptDesk$Method") ∈ lw_all := lw_g (lw_at lw_m8 45 rfl) rfl
theorem q1848 : (Jvm.Cond.methodLink "ExemptDesk$Books" (240 : Nat) ({ cls := "ExemptDesk$Method", name := "fraction", desc := "(LExemptDesk$Sums;IIILExemptDesk$Way;)I" } : Jvm.MethodName)) ∈ lw_all := lw_g (lw_at lw_m8 46 rfl) rfl
theorem q1857 : (Jvm.Cond.methodLink "ExemptDesk$Books" (258 : Nat) ({ cls := "java/lang/Math", name := "min", desc := "(II)I" } : Jvm.MethodName)) ∈ lw_all := lw_g (lw_at lw_m8 55 rfl) rfl
theorem q1858 : (Jvm.Cond.methodLink "ExemptDesk$Books" (267 : Nat) ({ cls := "ExemptDesk$Sums", name := "back", desc := "(IILExemptDesk$Way;I)I" } : Jvm.MethodName)) ∈ lw_all := lw_g (lw_at lw_m8 56 rfl) rfl
theorem q1876 : (Jvm.Cond.methodLink "ExemptDesk$Books" (297 : Nat) ({ cls := "ExemptDesk$Books", name := "book", desc := "(IIII)V" } : Jvm.MethodName)) ∈ lw_all := lw_g (lw_at lw_m8 74 rfl) rfl
theorem q1877 : (Jvm.Cond.privateMethod ({ cls := "ExemptDesk$Books", name := "book", desc := "(IIII)V" } : Jvm.MethodName)) ∈ lw_tbl := lw_at lw_m8 75 rfl
theorem q1878 : (Jvm.Cond.instanceMethod ({ cls := "ExemptDesk$Books", name := "book", desc := "(IIII)V" } : Jvm.MethodName)) ∈ lw_all := lw_g (lw_at lw_m8 76 rfl) rfl
theorem q1879 : (Jvm.Cond.code ({ cls := "ExemptDesk$Books", name := "book", desc := "(IIII)V" } : Jvm.MethodName) prog_3_method_15_code (5 : Nat) (Option.none : Option Jvm.ClassFile.FieldType)) ∈ lw_all := lw_g (lw_at lw_m8 77 rfl) rfl
theorem q1880 : (Jvm.Cond.methodLink "ExemptDesk$Books" (271 : Nat) ({ cls := "java/util/ArrayDeque", name := "size", desc := "()I" } : Jvm.MethodName)) ∈ lw_all := lw_g (lw_at lw_m8 78 rfl) rfl
theorem q1881 : (Jvm.Cond.methodLink "ExemptDesk$Books" (272 : Nat) ({ cls := "java/util/ArrayDeque", name := "removeLast", desc := "()Ljava/lang/Object;" } : Jvm.MethodName)) ∈ lw_all := lw_g (lw_at lw_m8 79 rfl) rfl
theorem q1898 : (Jvm.Cond.methodLink "ExemptDesk$Books" (275 : Nat) ({ cls := "ExemptDesk$Entry", name := "<init>", desc := "(IIIII)V" } : Jvm.MethodName)) ∈ lw_all := lw_g (lw_at lw_m8 96 rfl) rfl
theorem q1918 : (Jvm.Cond.methodLink "ExemptDesk$Books" (278 : Nat) ({ cls := "java/util/ArrayDeque", name := "addFirst", desc := "(Ljava/lang/Object;)V" } : Jvm.MethodName)) ∈ lw_all := lw_g (lw_at lw_m8 116 rfl) rfl
theorem q1922 : (Jvm.Cond.methodLink "ExemptDesk$Books" (291 : Nat) ({ cls := "ExemptDesk$Books", name := "closeYear", desc := "()V" } : Jvm.MethodName)) ∈ lw_all := lw_g (lw_at lw_m8 120 rfl) rfl
theorem q1923 : (Jvm.Cond.privateMethod ({ cls := "ExemptDesk$Books", name := "closeYear", desc := "()V" } : Jvm.MethodName)) ∈ lw_tbl := lw_at lw_m8 121 rfl
theorem q1924 : (Jvm.Cond.instanceMethod ({ cls := "ExemptDesk$Books", name := "closeYear", desc := "()V" } : Jvm.MethodName)) ∈ lw_all := lw_g (lw_at lw_m8 122 rfl) rfl
theorem q1925 : (Jvm.Cond.code ({ cls := "ExemptDesk$Books", name := "closeYear", desc := "()V" } : Jvm.MethodName) prog_3_method_19_code (4 : Nat) (Option.none : Option Jvm.ClassFile.FieldType)) ∈ lw_all := lw_g (lw_at lw_m8 123 rfl) rfl
theorem q1926 : (Jvm.Cond.methodLink "ExemptDesk$Books" (244 : Nat) ({ cls := "ExemptDesk$Books", name := "ofYear", desc := "(II)LExemptDesk$Sums;" } : Jvm.MethodName)) ∈ lw_all := lw_g (lw_at lw_m8 124 rfl) rfl
theorem q1927 : (Jvm.Cond.instanceMethod ({ cls := "ExemptDesk$Books", name := "ofYear", desc := "(II)LExemptDesk$Sums;" } : Jvm.MethodName)) ∈ lw_all := lw_g (lw_at lw_m8 125 rfl) rfl
theorem q1928 : (Jvm.Cond.selects "ExemptDesk$Books" ({ cls := "ExemptDesk$Books", name := "ofYear", desc := "(II)LExemptDesk$Sums;" } : Jvm.MethodName) ({ cls := "ExemptDesk$Books", name := "ofYear", desc := "(II)LExemptDesk$Sums;" } : Jvm.MethodName)) ∈ lw_all := lw_g (lw_at lw_m8 126 rfl) rfl
theorem q1929 : (Jvm.Cond.code ({ cls := "ExemptDesk$Books", name := "ofYear", desc := "(II)LExemptDesk$Sums;" } : Jvm.MethodName) prog_3_method_10_code (4 : Nat) (Option.some (Jvm.ClassFile.FieldType.object "ExemptDesk$Sums"))) ∈ lw_all := lw_g (lw_at lw_m8 127 rfl) rfl
theorem q1930 : (Jvm.Cond.methodLink "ExemptDesk$Books" (223 : Nat) ({ cls := "ExemptDesk$Sums", name := "clear", desc := "()V" } : Jvm.MethodName)) ∈ lw_all := lw_g (lw_at lw_m8 128 rfl) rfl
theorem q1934 : (Jvm.Cond.methodLink "ExemptDesk$Books" (224 : Nat) ({ cls := "ExemptDesk$Sums", name := "add", desc := "(LExemptDesk$Sums;)V" } : Jvm.MethodName)) ∈ lw_all := lw_g (lw_at lw_m8 132 rfl) rfl
theorem q1938 : (Jvm.Cond.methodLink "ExemptDesk$Books" (300 : Nat) ({ cls := "ExemptDesk$Books", name := "bookedIn", desc := "(II)I" } : Jvm.MethodName)) ∈ lw_all := lw_g (lw_at lw_m8 136 rfl) rfl
theorem q1939 : (Jvm.Cond.instanceMethod ({ cls := "ExemptDesk$Books", name := "bookedIn", desc := "(II)I" } : Jvm.MethodName)) ∈ lw_all := lw_g (lw_at lw_m8 137 rfl) rfl
theorem q1940 : (Jvm.Cond.selects "ExemptDesk$Books" ({ cls := "ExemptDesk$Books", name := "bookedIn", desc := "(II)I" } : Jvm.MethodName) ({ cls := "ExemptDesk$Books", name := "bookedIn", desc := "(II)I" } : Jvm.MethodName)) ∈ lw_all := lw_g (lw_at lw_m8 138 rfl) rfl
theorem q1941 : (Jvm.Cond.code ({ cls := "ExemptDesk$Books", name := "bookedIn", desc := "(II)I" } : Jvm.MethodName) prog_3_method_18_code (5 : Nat) (Option.some Jvm.ClassFile.FieldType.int)) ∈ lw_all := lw_g (lw_at lw_m8 139 rfl) rfl
theorem q1942 : (Jvm.Cond.methodLink "ExemptDesk$Books" (303 : Nat) ({ cls := "ExemptDesk$Books", name := "closeInterval", desc := "(LExemptDesk$Asset;I)V" } : Jvm.MethodName)) ∈ lw_all := lw_g (lw_at lw_m8 140 rfl) rfl
theorem q1943 : (Jvm.Cond.privateMethod ({ cls := "ExemptDesk$Books", name := "closeInterval", desc := "(LExemptDesk$Asset;I)V" } : Jvm.MethodName)) ∈ lw_tbl := lw_at lw_m8 141 rfl
theorem q1944 : (Jvm.Cond.instanceMethod ({ cls := "ExemptDesk$Books", name := "closeInterval", desc := "(LExemptDesk$Asset;I)V" } : Jvm.MethodName)) ∈ lw_all := lw_g (lw_at lw_m8 142 rfl) rfl
theorem q1945 : (Jvm.Cond.code ({ cls := "ExemptDesk$Books", name := "closeInterval", desc := "(LExemptDesk$Asset;I)V" } : Jvm.MethodName) prog_3_method_20_code (5 : Nat) (Option.none : Option Jvm.ClassFile.FieldType)) ∈ lw_all := lw_g (lw_at lw_m8 143 rfl) rfl
theorem q1946 : (Jvm.Cond.methodLink "ExemptDesk$Books" (328 : Nat) ({ cls := "ExemptDesk$Books", name := "worthOf", desc := "(LExemptDesk$Asset;II)I" } : Jvm.MethodName)) ∈ lw_all := lw_g (lw_at lw_m8 144 rfl) rfl
theorem q1947 : (Jvm.Cond.instanceMethod ({ cls := "ExemptDesk$Books", name := "worthOf", desc := "(LExemptDesk$Asset;II)I" } : Jvm.MethodName)) ∈ lw_all := lw_g (lw_at lw_m8 145 rfl) rfl
theorem q1948 : (Jvm.Cond.selects "ExemptDesk$Books" ({ cls := "ExemptDesk$Books", name := "worthOf", desc := "(LExemptDesk$Asset;II)I" } : Jvm.MethodName) ({ cls := "ExemptDesk$Books", name := "worthOf", desc := "(LExemptDesk$Asset;II)I" } : Jvm.MethodName)) ∈ lw_all := lw_g (lw_at lw_m8 146 rfl) rfl
theorem q1949 : (Jvm.Cond.code ({ cls := "ExemptDesk$Books", name := "worthOf", desc := "(LExemptDesk$Asset;II)I" } : Jvm.MethodName) prog_3_method_22_code (7 : Nat) (Option.some Jvm.ClassFile.FieldType.int)) ∈ lw_all := lw_g (lw_at lw_m8 147 rfl) rfl
theorem q1950 : (Jvm.Cond.methodLink "ExemptDesk$Books" (363 : Nat) ({ cls := "ExemptDesk$Books", name := "byUse", desc := "(II)I" } : Jvm.MethodName)) ∈ lw_all := lw_g (lw_at lw_m8 148 rfl) rfl
theorem q1951 : (Jvm.Cond.privateMethod ({ cls := "ExemptDesk$Books", name := "byUse", desc := "(II)I" } : Jvm.MethodName)) ∈ lw_tbl := lw_at lw_m8 149 rfl
theorem q1952 : (Jvm.Cond.instanceMethod ({ cls := "ExemptDesk$Books", name := "byUse", desc := "(II)I" } : Jvm.MethodName)) ∈ lw_all := lw_g (lw_at lw_m8 150 rfl) rfl
theorem q1953 : (Jvm.Cond.code ({ cls := "ExemptDesk$Books", name := "byUse", desc := "(II)I" } : Jvm.MethodName) prog_3_method_23_code (3 : Nat) (Option.some Jvm.ClassFile.FieldType.int)) ∈ lw_all := lw_g (lw_at lw_m8 151 rfl) rfl
theorem q1954 : (Jvm.Cond.constantLong "ExemptDesk$Books" (366 : Nat) (4 : Int64)) ∈ lw_all := lw_g (lw_at lw_m8 152 rfl) rfl
theorem q1955 : (Jvm.Cond.methodLink "ExemptDesk$Books" (338 : Nat) ({ cls := "ExemptDesk$Asset", name := "share", desc := "(IIIILExemptDesk$Way;)J" } : Jvm.MethodName)) ∈ lw_all := lw_g (lw_at lw_m8 153 rfl) rfl
theorem q1960 : (Jvm.Cond.methodLinkNest "ExemptDesk$Books" (345 : Nat) ({ cls := "ExemptDesk", name := "in", desc := "(JJJ)Z" } : Jvm.MethodName) "ExemptDesk") ∈ lw_tbl := lw_at lw_m8 158 rfl
theorem q1961 : (Jvm.Cond.methodLink "ExemptDesk$Books" (350 : Nat) ({ cls := "ExemptDesk$Books", name := "finalOf", desc := "(LExemptDesk$Asset;III)I" } : Jvm.MethodName)) ∈ lw_all := lw_g (lw_at lw_m8 159 rfl) rfl
theorem q1962 : (Jvm.Cond.instanceMethod ({ cls := "ExemptDesk$Books", name := "finalOf", desc := "(LExemptDesk$Asset;III)I" } : Jvm.MethodName)) ∈ lw_all := lw_g (lw_at lw_m8 160 rfl) rfl
theorem q1963 : (Jvm.Cond.selects "ExemptDesk$Books" ({ cls := "ExemptDesk$Books", name := "finalOf", desc := "(LExemptDesk$Asset;III)I" } : Jvm.MethodName) ({ cls := "ExemptDesk$Books", name := "finalOf", desc := "(LExemptDesk$Asset;III)I" } : Jvm.MethodName)) ∈ lw_all := lw_g (lw_at lw_m8 161 rfl) rfl
theorem q1964 : (Jvm.Cond.code ({ cls := "ExemptDesk$Books", name := "finalOf", desc := "(LExemptDesk$Asset;III)I" } : Jvm.MethodName) prog_3_method_21_code (5 : Nat) (Option.some Jvm.ClassFile.FieldType.int)) ∈ lw_all := lw_g (lw_at lw_m8 162 rfl) rfl
theorem q1965 : (Jvm.Cond.methodLink "ExemptDesk$Books" (310 : Nat) ({ cls := "java/util/BitSet", name := "set", desc := "(I)V" } : Jvm.MethodName)) ∈ lw_all := lw_g (lw_at lw_m8 163 rfl) rfl
theorem q1981 : (Jvm.Cond.interfaceEntry "ExemptDesk$Books" (313 : Nat)) ∈ lw_tbl := lw_at lw_m8 179 rfl
theorem q1982 : (Jvm.Cond.methodLink "ExemptDesk$Books" (313 : Nat) ({ cls := "java/util/Iterator", name := "remove", desc := "()V" } : Jvm.MethodName)) ∈ lw_all := lw_g (lw_at lw_m8 180 rfl) rfl
theorem q2082 : (Jvm.Cond.instanceMethod ({ cls := "ExemptDesk$Books", name := "annualOf", desc := "(II)I" } : Jvm.MethodName)) ∈ lw_all := lw_g (lw_at lw_m9 40 rfl) rfl
theorem q2083 : (Jvm.Cond.selects "ExemptDesk$Books" ({ cls := "ExemptDesk$Books", name := "annualOf", desc := "(II)I" } : Jvm.MethodName) ({ cls := "ExemptDesk$Books", name := "annualOf", desc := "(II)I" } : Jvm.MethodName)) ∈ lw_all := lw_g (lw_at lw_m9 41 rfl) rfl
theorem q2084 : (Jvm.Cond.code ({ cls := "ExemptDesk$Books", name := "annualOf", desc := "(II)I" } : Jvm.MethodName) prog_3_method_12_code (3 : Nat) (Option.some Jvm.ClassFile.FieldType.int)) ∈ lw_all := lw_g (lw_at lw_m9 42 rfl) rfl
theorem q2086 : (Jvm.Cond.instanceMethod ({ cls := "ExemptDesk$Books", name := "backOfYear", desc := "(II)I" } : Jvm.MethodName)) ∈ lw_all := lw_g (lw_at lw_m9 44 rfl) rfl
theorem q2087 : (Jvm.Cond.selects "ExemptDesk$Books" ({ cls := "ExemptDesk$Books", name := "backOfYear", desc := "(II)I" } : Jvm.MethodName) ({ cls := "ExemptDesk$Books", name := "backOfYear", desc := "(II)I" } : Jvm.MethodName)) ∈ lw_all := lw_g (lw_at lw_m9 45 rfl) rfl
theorem q2088 : (Jvm.Cond.code ({ cls := "ExemptDesk$Books", name := "backOfYear", desc := "(II)I" } : Jvm.MethodName) prog_3_method_14_code (3 : Nat) (Option.some Jvm.ClassFile.FieldType.int)) ∈ lw_all := lw_g (lw_at lw_m9 46 rfl) rfl
theorem q2089 : (Jvm.Cond.methodLink "ExemptDesk$Books" (261 : Nat) ({ cls := "ExemptDesk$Books", name := "annualOf", desc := "(II)I" } : Jvm.MethodName)) ∈ lw_all := lw_g (lw_at lw_m9 47 rfl) rfl
theorem q2109 : (Jvm.Cond.instanceMethod ({ cls := "ExemptDesk$Books", name := "taken", desc := "(LExemptDesk$Asset;)I" } : Jvm.MethodName)) ∈ lw_all := lw_g (lw_at lw_m9 67 rfl) rfl
theorem q2110 : (Jvm.Cond.selects "ExemptDesk$Books" ({ cls := "ExemptDesk$Books", name := "taken", desc := "(LExemptDesk$Asset;)I" } : Jvm.MethodName) ({ cls := "ExemptDesk$Books", name := "taken", desc := "(LExemptDesk$Asset;)I" } : Jvm.MethodName)) ∈ lw_all := lw_g (lw_at lw_m9 68 rfl) rfl
theorem q2111 : (Jvm.Cond.code ({ cls := "ExemptDesk$Books", name := "taken", desc := "(LExemptDesk$Asset;)I" } : Jvm.MethodName) prog_3_method_27_code (4 : Nat) (Option.some Jvm.ClassFile.FieldType.int)) ∈ lw_all := lw_g (lw_at lw_m9 69 rfl) rfl
theorem q2112 : (Jvm.Cond.methodLink "ExemptDesk$Books" (379 : Nat) ({ cls := "ExemptDesk$Books", name := "firstOf", desc := "(LExemptDesk$Asset;)I" } : Jvm.MethodName)) ∈ lw_all := lw_g (lw_at lw_m9 70 rfl) rfl
theorem q2113 : (Jvm.Cond.constant "ExemptDesk$Books" (382 : Nat) (-999999 : Int32)) ∈ lw_all := lw_g (lw_at lw_m9 71 rfl) rfl
theorem q2215 : (Jvm.Cond.instanceMethod ({ cls := "ExemptDesk$Books", name := "baseNow", desc := "(LExemptDesk$Asset;)I" } : Jvm.MethodName)) ∈ lw_all := lw_g (lw_at lw_m9 173 rfl) rfl
theorem q2216 : (Jvm.Cond.selects "ExemptDesk$Books" ({ cls := "ExemptDesk$Books", name := "baseNow", desc := "(LExemptDesk$Asset;)I" } : Jvm.MethodName) ({ cls := "ExemptDesk$Books", name := "baseNow", desc := "(LExemptDesk$Asset;)I" } : Jvm.MethodName)) ∈ lw_all := lw_g (lw_at lw_m9 174 rfl) rfl
theorem q2217 : (Jvm.Cond.code ({ cls := "ExemptDesk$Books", name := "baseNow", desc := "(LExemptDesk$Asset;)I" } : Jvm.MethodName) prog_3_method_25_code (2 : Nat) (Option.some Jvm.ClassFile.FieldType.int)) ∈ lw_all := lw_g (lw_at lw_m9 175 rfl) rfl
theorem q2218 : (Jvm.Cond.methodLink "ExemptDesk$Books" (372 : Nat) ({ cls := "ExemptDesk$Books", name := "worthNow", desc := "(LExemptDesk$Asset;)I" } : Jvm.MethodName)) ∈ lw_all := lw_g (lw_at lw_m9 176 rfl) rfl
theorem q2219 : (Jvm.Cond.instanceMethod ({ cls := "ExemptDesk$Books", name := "worthNow", desc := "(LExemptDesk$Asset;)I" } : Jvm.MethodName)) ∈ lw_all := lw_g (lw_at lw_m9 177 rfl) rfl
theorem q2220 : (Jvm.Cond.selects "ExemptDesk$Books" ({ cls := "ExemptDesk$Books", name := "worthNow", desc := "(LExemptDesk$Asset;)I" } : Jvm.MethodName) ({ cls := "ExemptDesk$Books", name := "worthNow", desc := "(LExemptDesk$Asset;)I" } : Jvm.MethodName)) ∈ lw_all := lw_g (lw_at lw_m9 178 rfl) rfl
theorem q2221 : (Jvm.Cond.code ({ cls := "ExemptDesk$Books", name := "worthNow", desc := "(LExemptDesk$Asset;)I" } : Jvm.MethodName) prog_3_method_24_code (2 : Nat) (Option.some Jvm.ClassFile.FieldType.int)) ∈ lw_all := lw_g (lw_at lw_m9 179 rfl) rfl
theorem q2976 : (Jvm.Cond.castable "ExemptDesk$Books" "java/lang/Object") ∈ lw_tbl := lw_at lw_m12 214 rfl

