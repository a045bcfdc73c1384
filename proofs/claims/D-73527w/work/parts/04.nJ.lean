set_option maxRecDepth 100000
abbrev cJ0_floorDiv : ByteArray := prog_31_method_49_code
def yJ0_floorDiv : MethodName := ⟨RJ0, "floorDiv", "(JJ)J"⟩
def dkwJ0_floorDiv_1 : List UInt8 := [10, 101, 173, 22, 4, 173]
abbrev dktJ0_floorDiv_1 : List UInt8 := dkwJ0_floorDiv_1 ++ []
def dkwJ0_floorDiv_0 : List UInt8 := [30, 32, 109, 55, 4, 30, 32, 131, 9, 148, 156, 0, 17, 22, 4, 32, 105, 30, 148, 153, 0, 8, 22, 4]
abbrev dktJ0_floorDiv_0 : List UInt8 := dkwJ0_floorDiv_0 ++ dktJ0_floorDiv_1
theorem dksJ0_floorDiv_0 : cJ0_floorDiv.data.toList.drop 0 = dktJ0_floorDiv_0 := by decide +kernel
theorem dksJ0_floorDiv_1 : cJ0_floorDiv.data.toList.drop 24 = dktJ0_floorDiv_1 := dk_seg dksJ0_floorDiv_0 24 rfl rfl
theorem dJ0_floorDiv_0 : decode cJ0_floorDiv 0 = .ok (.lload_n 0, 1) := dk_30 (dk_at dksJ0_floorDiv_0 0 rfl rfl)
theorem dJ0_floorDiv_1 : decode cJ0_floorDiv 1 = .ok (.lload_n 2, 1) := dk_32 (dk_at dksJ0_floorDiv_0 1 rfl rfl)
theorem dJ0_floorDiv_2 : decode cJ0_floorDiv 2 = .ok (.ldiv, 1) := dk_109 (dk_at dksJ0_floorDiv_0 2 rfl rfl)
theorem dJ0_floorDiv_3 : decode cJ0_floorDiv 3 = .ok (.lstore 4, 2) := dk_55 4 (dk_at dksJ0_floorDiv_0 3 rfl rfl)
theorem dJ0_floorDiv_5 : decode cJ0_floorDiv 5 = .ok (.lload_n 0, 1) := dk_30 (dk_at dksJ0_floorDiv_0 5 rfl rfl)
theorem dJ0_floorDiv_6 : decode cJ0_floorDiv 6 = .ok (.lload_n 2, 1) := dk_32 (dk_at dksJ0_floorDiv_0 6 rfl rfl)
theorem dJ0_floorDiv_7 : decode cJ0_floorDiv 7 = .ok (.lxor, 1) := dk_131 (dk_at dksJ0_floorDiv_0 7 rfl rfl)
theorem dJ0_floorDiv_8 : decode cJ0_floorDiv 8 = .ok (.lconst 0, 1) := dk_9 (dk_at dksJ0_floorDiv_0 8 rfl rfl)
theorem dJ0_floorDiv_9 : decode cJ0_floorDiv 9 = .ok (.lcmp, 1) := dk_148 (dk_at dksJ0_floorDiv_0 9 rfl rfl)
theorem dJ0_floorDiv_10 : decode cJ0_floorDiv 10 = .ok (.ifCond .ge 17, 3) := dk_156 0 17 (dk_at dksJ0_floorDiv_0 10 rfl rfl)
theorem dJ0_floorDiv_13 : decode cJ0_floorDiv 13 = .ok (.lload 4, 2) := dk_22 4 (dk_at dksJ0_floorDiv_0 13 rfl rfl)
theorem dJ0_floorDiv_15 : decode cJ0_floorDiv 15 = .ok (.lload_n 2, 1) := dk_32 (dk_at dksJ0_floorDiv_0 15 rfl rfl)
theorem dJ0_floorDiv_16 : decode cJ0_floorDiv 16 = .ok (.lmul, 1) := dk_105 (dk_at dksJ0_floorDiv_0 16 rfl rfl)
theorem dJ0_floorDiv_17 : decode cJ0_floorDiv 17 = .ok (.lload_n 0, 1) := dk_30 (dk_at dksJ0_floorDiv_0 17 rfl rfl)
theorem dJ0_floorDiv_18 : decode cJ0_floorDiv 18 = .ok (.lcmp, 1) := dk_148 (dk_at dksJ0_floorDiv_0 18 rfl rfl)
theorem dJ0_floorDiv_19 : decode cJ0_floorDiv 19 = .ok (.ifCond .eq 8, 3) := dk_153 0 8 (dk_at dksJ0_floorDiv_0 19 rfl rfl)
theorem dJ0_floorDiv_22 : decode cJ0_floorDiv 22 = .ok (.lload 4, 2) := dk_22 4 (dk_at dksJ0_floorDiv_0 22 rfl rfl)
theorem dJ0_floorDiv_24 : decode cJ0_floorDiv 24 = .ok (.lconst 1, 1) := dk_10 (dk_at dksJ0_floorDiv_1 0 rfl rfl)
theorem dJ0_floorDiv_25 : decode cJ0_floorDiv 25 = .ok (.lsub, 1) := dk_101 (dk_at dksJ0_floorDiv_1 1 rfl rfl)
theorem dJ0_floorDiv_26 : decode cJ0_floorDiv 26 = .ok (.lreturn, 1) := dk_173 (dk_at dksJ0_floorDiv_1 2 rfl rfl)
theorem dJ0_floorDiv_27 : decode cJ0_floorDiv 27 = .ok (.lload 4, 2) := dk_22 4 (dk_at dksJ0_floorDiv_1 3 rfl rfl)
theorem dJ0_floorDiv_29 : decode cJ0_floorDiv 29 = .ok (.lreturn, 1) := dk_173 (dk_at dksJ0_floorDiv_1 5 rfl rfl)
abbrev cJ0_max : ByteArray := prog_31_method_65_code
def yJ0_max : MethodName := ⟨RJ0, "max", "(II)I"⟩
def dkwJ0_max_0 : List UInt8 := [26, 27, 161, 0, 7, 26, 167, 0, 4, 27, 172]
abbrev dktJ0_max_0 : List UInt8 := dkwJ0_max_0 ++ []
theorem dksJ0_max_0 : cJ0_max.data.toList.drop 0 = dktJ0_max_0 := by decide +kernel
theorem dJ0_max_0 : decode cJ0_max 0 = .ok (.iload_n 0, 1) := dk_26 (dk_at dksJ0_max_0 0 rfl rfl)
theorem dJ0_max_1 : decode cJ0_max 1 = .ok (.iload_n 1, 1) := dk_27 (dk_at dksJ0_max_0 1 rfl rfl)
theorem dJ0_max_2 : decode cJ0_max 2 = .ok (.if_icmp .lt 7, 3) := dk_161 0 7 (dk_at dksJ0_max_0 2 rfl rfl)
theorem dJ0_max_5 : decode cJ0_max 5 = .ok (.iload_n 0, 1) := dk_26 (dk_at dksJ0_max_0 5 rfl rfl)
theorem dJ0_max_6 : decode cJ0_max 6 = .ok (.goto 4, 3) := dk_167 0 4 (dk_at dksJ0_max_0 6 rfl rfl)
theorem dJ0_max_9 : decode cJ0_max 9 = .ok (.iload_n 1, 1) := dk_27 (dk_at dksJ0_max_0 9 rfl rfl)
theorem dJ0_max_10 : decode cJ0_max 10 = .ok (.ireturn, 1) := dk_172 (dk_at dksJ0_max_0 10 rfl rfl)
abbrev cJ0_min : ByteArray := prog_31_method_69_code
def yJ0_min : MethodName := ⟨RJ0, "min", "(II)I"⟩
def dkwJ0_min_0 : List UInt8 := [26, 27, 163, 0, 7, 26, 167, 0, 4, 27, 172]
abbrev dktJ0_min_0 : List UInt8 := dkwJ0_min_0 ++ []
theorem dksJ0_min_0 : cJ0_min.data.toList.drop 0 = dktJ0_min_0 := by decide +kernel
theorem dJ0_min_0 : decode cJ0_min 0 = .ok (.iload_n 0, 1) := dk_26 (dk_at dksJ0_min_0 0 rfl rfl)
theorem dJ0_min_1 : decode cJ0_min 1 = .ok (.iload_n 1, 1) := dk_27 (dk_at dksJ0_min_0 1 rfl rfl)
theorem dJ0_min_2 : decode cJ0_min 2 = .ok (.if_icmp .gt 7, 3) := dk_163 0 7 (dk_at dksJ0_min_0 2 rfl rfl)
theorem dJ0_min_5 : decode cJ0_min 5 = .ok (.iload_n 0, 1) := dk_26 (dk_at dksJ0_min_0 5 rfl rfl)
theorem dJ0_min_6 : decode cJ0_min 6 = .ok (.goto 4, 3) := dk_167 0 4 (dk_at dksJ0_min_0 6 rfl rfl)
theorem dJ0_min_9 : decode cJ0_min 9 = .ok (.iload_n 1, 1) := dk_27 (dk_at dksJ0_min_0 9 rfl rfl)
theorem dJ0_min_10 : decode cJ0_min 10 = .ok (.ireturn, 1) := dk_172 (dk_at dksJ0_min_0 10 rfl rfl)
abbrev cJ0_abs : ByteArray := prog_31_method_59_code
def yJ0_abs : MethodName := ⟨RJ0, "abs", "(I)I"⟩
def dkwJ0_abs_0 : List UInt8 := [26, 156, 0, 8, 26, 116, 167, 0, 4, 26, 172]
abbrev dktJ0_abs_0 : List UInt8 := dkwJ0_abs_0 ++ []
theorem dksJ0_abs_0 : cJ0_abs.data.toList.drop 0 = dktJ0_abs_0 := by decide +kernel
theorem dJ0_abs_0 : decode cJ0_abs 0 = .ok (.iload_n 0, 1) := dk_26 (dk_at dksJ0_abs_0 0 rfl rfl)
theorem dJ0_abs_1 : decode cJ0_abs 1 = .ok (.ifCond .ge 8, 3) := dk_156 0 8 (dk_at dksJ0_abs_0 1 rfl rfl)
theorem dJ0_abs_4 : decode cJ0_abs 4 = .ok (.iload_n 0, 1) := dk_26 (dk_at dksJ0_abs_0 4 rfl rfl)
theorem dJ0_abs_5 : decode cJ0_abs 5 = .ok (.ineg, 1) := dk_116 (dk_at dksJ0_abs_0 5 rfl rfl)
theorem dJ0_abs_6 : decode cJ0_abs 6 = .ok (.goto 4, 3) := dk_167 0 4 (dk_at dksJ0_abs_0 6 rfl rfl)
theorem dJ0_abs_9 : decode cJ0_abs 9 = .ok (.iload_n 0, 1) := dk_26 (dk_at dksJ0_abs_0 9 rfl rfl)
theorem dJ0_abs_10 : decode cJ0_abs 10 = .ok (.ireturn, 1) := dk_172 (dk_at dksJ0_abs_0 10 rfl rfl)
theorem q125 : (Jvm.Cond.initialized "java/lang/Math") ∈ lw_all := lw_g (lw_at lw_m1 3 rfl) rfl
theorem q193 : (Jvm.Cond.static ({ cls := "java/lang/Math", name := "floorDiv", desc := "(JJ)J" } : Jvm.MethodName)) ∈ lw_all := lw_g (lw_at lw_m1 71 rfl) rfl
theorem q194 : (Jvm.Cond.code ({ cls := "java/lang/Math", name := "floorDiv", desc := "(JJ)J" } : Jvm.MethodName) prog_31_method_49_code (6 : Nat) (Option.some Jvm.ClassFile.FieldType.long)) ∈ lw_all := lw_g (lw_at lw_m1 72 rfl) rfl
theorem q440 : (Jvm.Cond.static ({ cls := "java/lang/Math", name := "max", desc := "(II)I" } : Jvm.MethodName)) ∈ lw_all := lw_g (lw_at lw_m2 78 rfl) rfl
theorem q441 : (Jvm.Cond.code ({ cls := "java/lang/Math", name := "max", desc := "(II)I" } : Jvm.MethodName) prog_31_method_65_code (2 : Nat) (Option.some Jvm.ClassFile.FieldType.int)) ∈ lw_all := lw_g (lw_at lw_m2 79 rfl) rfl
theorem q722 : (Jvm.Cond.static ({ cls := "java/lang/Math", name := "min", desc := "(II)I" } : Jvm.MethodName)) ∈ lw_all := lw_g (lw_at lw_m3 120 rfl) rfl
theorem q723 : (Jvm.Cond.code ({ cls := "java/lang/Math", name := "min", desc := "(II)I" } : Jvm.MethodName) prog_31_method_69_code (2 : Nat) (Option.some Jvm.ClassFile.FieldType.int)) ∈ lw_all := lw_g (lw_at lw_m3 121 rfl) rfl
theorem q2287 : (Jvm.Cond.static ({ cls := "java/lang/Math", name := "abs", desc := "(I)I" } : Jvm.MethodName)) ∈ lw_all := lw_g (lw_at lw_m10 5 rfl) rfl
theorem q2288 : (Jvm.Cond.code ({ cls := "java/lang/Math", name := "abs", desc := "(I)I" } : Jvm.MethodName) prog_31_method_59_code (1 : Nat) (Option.some Jvm.ClassFile.FieldType.int)) ∈ lw_all := lw_g (lw_at lw_m10 6 rfl) rfl

abbrev cJ1_of : ByteArray := prog_65_method_39_code
def yJ1_of : MethodName := ⟨RJ1, "of", "(Ljava/lang/Object;Ljava/lang/Object;Ljava/lang/Object;)Ljava/util/List;"⟩
def dkwJ1_of_0 : List UInt8 := [6, 189, 0, 103, 89, 3, 42, 83, 89, 4, 43, 83, 89, 5, 44, 83, 184, 0, 105, 176]
abbrev dktJ1_of_0 : List UInt8 := dkwJ1_of_0 ++ []
theorem dksJ1_of_0 : cJ1_of.data.toList.drop 0 = dktJ1_of_0 := by decide +kernel
theorem dJ1_of_0 : decode cJ1_of 0 = .ok (.iconst 3, 1) := dk_6 (dk_at dksJ1_of_0 0 rfl rfl)
theorem dJ1_of_1 : decode cJ1_of 1 = .ok (.anewarray 103, 3) := dk_189 0 103 (dk_at dksJ1_of_0 1 rfl rfl)
theorem dJ1_of_4 : decode cJ1_of 4 = .ok (.dup, 1) := dk_89 (dk_at dksJ1_of_0 4 rfl rfl)
theorem dJ1_of_5 : decode cJ1_of 5 = .ok (.iconst 0, 1) := dk_3 (dk_at dksJ1_of_0 5 rfl rfl)
theorem dJ1_of_6 : decode cJ1_of 6 = .ok (.aload_n 0, 1) := dk_42 (dk_at dksJ1_of_0 6 rfl rfl)
theorem dJ1_of_7 : decode cJ1_of 7 = .ok (.aastore, 1) := dk_83 (dk_at dksJ1_of_0 7 rfl rfl)
theorem dJ1_of_8 : decode cJ1_of 8 = .ok (.dup, 1) := dk_89 (dk_at dksJ1_of_0 8 rfl rfl)
theorem dJ1_of_9 : decode cJ1_of 9 = .ok (.iconst 1, 1) := dk_4 (dk_at dksJ1_of_0 9 rfl rfl)
theorem dJ1_of_10 : decode cJ1_of 10 = .ok (.aload_n 1, 1) := dk_43 (dk_at dksJ1_of_0 10 rfl rfl)
theorem dJ1_of_11 : decode cJ1_of 11 = .ok (.aastore, 1) := dk_83 (dk_at dksJ1_of_0 11 rfl rfl)
theorem dJ1_of_12 : decode cJ1_of 12 = .ok (.dup, 1) := dk_89 (dk_at dksJ1_of_0 12 rfl rfl)
theorem dJ1_of_13 : decode cJ1_of 13 = .ok (.iconst 2, 1) := dk_5 (dk_at dksJ1_of_0 13 rfl rfl)
theorem dJ1_of_14 : decode cJ1_of 14 = .ok (.aload_n 2, 1) := dk_44 (dk_at dksJ1_of_0 14 rfl rfl)
theorem dJ1_of_15 : decode cJ1_of 15 = .ok (.aastore, 1) := dk_83 (dk_at dksJ1_of_0 15 rfl rfl)
theorem dJ1_of_16 : decode cJ1_of 16 = .ok (.invokestatic 105, 3) := dk_184 0 105 (dk_at dksJ1_of_0 16 rfl rfl)
theorem dJ1_of_19 : decode cJ1_of 19 = .ok (.areturn, 1) := dk_176 (dk_at dksJ1_of_0 19 rfl rfl)
theorem q126 : (Jvm.Cond.initialized "java/util/List") ∈ lw_all := lw_g (lw_at lw_m1 4 rfl) rfl
theorem q205 : (Jvm.Cond.static ({ cls := "java/util/List", name := "of", desc := "(Ljava/lang/Object;Ljava/lang/Object;Ljava/lang/Object;)Ljava/util/List;" } : Jvm.MethodName)) ∈ lw_all := lw_g (lw_at lw_m1 83 rfl) rfl
theorem q206 : (Jvm.Cond.code ({ cls := "java/util/List", name := "of", desc := "(Ljava/lang/Object;Ljava/lang/Object;Ljava/lang/Object;)Ljava/util/List;" } : Jvm.MethodName) prog_65_method_39_code (3 : Nat) (Option.some (Jvm.ClassFile.FieldType.object "java/util/List"))) ∈ lw_all := lw_g (lw_at lw_m1 84 rfl) rfl
theorem q207 : (Jvm.Cond.classLink "java/util/List" (103 : Nat) "java/lang/Object") ∈ lw_all := lw_g (lw_at lw_m1 85 rfl) rfl
theorem q209 : (Jvm.Cond.methodLink "java/util/List" (105 : Nat) ({ cls := "java/util/ImmutableCollections", name := "listFromTrustedArray", desc := "([Ljava/lang/Object;)Ljava/util/List;" } : Jvm.MethodName)) ∈ lw_all := lw_g (lw_at lw_m1 87 rfl) rfl
theorem q1594 : (Jvm.Cond.interfaceMethod "java/util/List" "java/util/List" "get" "(I)Ljava/lang/Object;") ∈ lw_tbl := lw_at lw_m7 32 rfl
theorem q1595 : (Jvm.Cond.declares ({ cls := "java/util/List", name := "get", desc := "(I)Ljava/lang/Object;" } : Jvm.MethodName)) ∈ lw_tbl := lw_at lw_m7 33 rfl
theorem q2155 : (Jvm.Cond.interfaceMethod "java/util/List" "java/util/List" "size" "()I") ∈ lw_tbl := lw_at lw_m9 113 rfl
theorem q2156 : (Jvm.Cond.declares ({ cls := "java/util/List", name := "size", desc := "()I" } : Jvm.MethodName)) ∈ lw_tbl := lw_at lw_m9 114 rfl

abbrev cJ2_listFromTrustedArray : ByteArray := prog_55_method_5_code
def yJ2_listFromTrustedArray : MethodName := ⟨RJ2, "listFromTrustedArray", "([Ljava/lang/Object;)Ljava/util/List;"⟩
def dkwJ2_listFromTrustedArray_5 : List UInt8 := [3, 50, 42, 4, 50, 183, 0, 67, 167, 0, 12, 187, 0, 12, 89, 42, 3, 183, 0, 43, 176]
abbrev dktJ2_listFromTrustedArray_5 : List UInt8 := dkwJ2_listFromTrustedArray_5 ++ []
def dkwJ2_listFromTrustedArray_4 : List UInt8 := [178, 0, 60, 167, 0, 41, 187, 0, 10, 89, 42, 3, 50, 183, 0, 64, 167, 0, 28, 187, 0, 10, 89, 42]
abbrev dktJ2_listFromTrustedArray_4 : List UInt8 := dkwJ2_listFromTrustedArray_4 ++ dktJ2_listFromTrustedArray_5
def dkwJ2_listFromTrustedArray_3 : List UInt8 := [170, 0, 0, 0, 0, 61, 0, 0, 0, 0, 0, 0, 0, 2, 0, 0, 0, 26, 0, 0, 0, 32, 0, 0, 0, 45]
abbrev dktJ2_listFromTrustedArray_3 : List UInt8 := dkwJ2_listFromTrustedArray_3 ++ dktJ2_listFromTrustedArray_4
def dkwJ2_listFromTrustedArray_2 : List UInt8 := [132, 3, 1, 167, 255, 237, 42, 190]
abbrev dktJ2_listFromTrustedArray_2 : List UInt8 := dkwJ2_listFromTrustedArray_2 ++ dktJ2_listFromTrustedArray_3
def dkwJ2_listFromTrustedArray_1 : List UInt8 := [76, 43, 190, 61, 3, 62, 29, 28, 162, 0, 20, 43, 29, 50, 58, 4, 25, 4, 184, 0, 37, 87]
abbrev dktJ2_listFromTrustedArray_1 : List UInt8 := dkwJ2_listFromTrustedArray_1 ++ dktJ2_listFromTrustedArray_2
def dkwJ2_listFromTrustedArray_0 : List UInt8 := [178, 0, 46, 154, 0, 20, 42, 182, 0, 51, 18, 55, 165, 0, 11, 187, 0, 57, 89, 183, 0, 59, 191, 42]
abbrev dktJ2_listFromTrustedArray_0 : List UInt8 := dkwJ2_listFromTrustedArray_0 ++ dktJ2_listFromTrustedArray_1
theorem dksJ2_listFromTrustedArray_0 : cJ2_listFromTrustedArray.data.toList.drop 0 = dktJ2_listFromTrustedArray_0 := by decide +kernel
theorem dksJ2_listFromTrustedArray_1 : cJ2_listFromTrustedArray.data.toList.drop 24 = dktJ2_listFromTrustedArray_1 := dk_seg dksJ2_listFromTrustedArray_0 24 rfl rfl
theorem dksJ2_listFromTrustedArray_2 : cJ2_listFromTrustedArray.data.toList.drop 46 = dktJ2_listFromTrustedArray_2 := dk_seg dksJ2_listFromTrustedArray_1 22 rfl rfl
theorem dksJ2_listFromTrustedArray_3 : cJ2_listFromTrustedArray.data.toList.drop 54 = dktJ2_listFromTrustedArray_3 := dk_seg dksJ2_listFromTrustedArray_2 8 rfl rfl
theorem dksJ2_listFromTrustedArray_4 : cJ2_listFromTrustedArray.data.toList.drop 80 = dktJ2_listFromTrustedArray_4 := dk_seg dksJ2_listFromTrustedArray_3 26 rfl rfl
theorem dksJ2_listFromTrustedArray_5 : cJ2_listFromTrustedArray.data.toList.drop 104 = dktJ2_listFromTrustedArray_5 := dk_seg dksJ2_listFromTrustedArray_4 24 rfl rfl
theorem dJ2_listFromTrustedArray_0 : decode cJ2_listFromTrustedArray 0 = .ok (.getstatic 46, 3) := dk_178 0 46 (dk_at dksJ2_listFromTrustedArray_0 0 rfl rfl)
theorem dJ2_listFromTrustedArray_3 : decode cJ2_listFromTrustedArray 3 = .ok (.ifCond .ne 20, 3) := dk_154 0 20 (dk_at dksJ2_listFromTrustedArray_0 3 rfl rfl)
theorem dJ2_listFromTrustedArray_6 : decode cJ2_listFromTrustedArray 6 = .ok (.aload_n 0, 1) := dk_42 (dk_at dksJ2_listFromTrustedArray_0 6 rfl rfl)
theorem dJ2_listFromTrustedArray_7 : decode cJ2_listFromTrustedArray 7 = .ok (.invokevirtual 51, 3) := dk_182 0 51 (dk_at dksJ2_listFromTrustedArray_0 7 rfl rfl)
theorem dJ2_listFromTrustedArray_10 : decode cJ2_listFromTrustedArray 10 = .ok (.ldc 55, 2) := dk_18 55 (dk_at dksJ2_listFromTrustedArray_0 10 rfl rfl)
theorem dJ2_listFromTrustedArray_12 : decode cJ2_listFromTrustedArray 12 = .ok (.if_acmp .eq 11, 3) := dk_165 0 11 (dk_at dksJ2_listFromTrustedArray_0 12 rfl rfl)
theorem dJ2_listFromTrustedArray_15 : decode cJ2_listFromTrustedArray 15 = .ok (.new 57, 3) := dk_187 0 57 (dk_at dksJ2_listFromTrustedArray_0 15 rfl rfl)
theorem dJ2_listFromTrustedArray_18 : decode cJ2_listFromTrustedArray 18 = .ok (.dup, 1) := dk_89 (dk_at dksJ2_listFromTrustedArray_0 18 rfl rfl)
theorem dJ2_listFromTrustedArray_19 : decode cJ2_listFromTrustedArray 19 = .ok (.invokespecial 59, 3) := dk_183 0 59 (dk_at dksJ2_listFromTrustedArray_0 19 rfl rfl)
theorem dJ2_listFromTrustedArray_22 : decode cJ2_listFromTrustedArray 22 = .ok (.athrow, 1) := dk_191 (dk_at dksJ2_listFromTrustedArray_0 22 rfl rfl)
theorem dJ2_listFromTrustedArray_23 : decode cJ2_listFromTrustedArray 23 = .ok (.aload_n 0, 1) := dk_42 (dk_at dksJ2_listFromTrustedArray_0 23 rfl rfl)
theorem dJ2_listFromTrustedArray_24 : decode cJ2_listFromTrustedArray 24 = .ok (.astore_n 1, 1) := dk_76 (dk_at dksJ2_listFromTrustedArray_1 0 rfl rfl)
theorem dJ2_listFromTrustedArray_25 : decode cJ2_listFromTrustedArray 25 = .ok (.aload_n 1, 1) := dk_43 (dk_at dksJ2_listFromTrustedArray_1 1 rfl rfl)
theorem dJ2_listFromTrustedArray_26 : decode cJ2_listFromTrustedArray 26 = .ok (.arraylength, 1) := dk_190 (dk_at dksJ2_listFromTrustedArray_1 2 rfl rfl)
theorem dJ2_listFromTrustedArray_27 : decode cJ2_listFromTrustedArray 27 = .ok (.istore_n 2, 1) := dk_61 (dk_at dksJ2_listFromTrustedArray_1 3 rfl rfl)
theorem dJ2_listFromTrustedArray_28 : decode cJ2_listFromTrustedArray 28 = .ok (.iconst 0, 1) := dk_3 (dk_at dksJ2_listFromTrustedArray_1 4 rfl rfl)
theorem dJ2_listFromTrustedArray_29 : decode cJ2_listFromTrustedArray 29 = .ok (.istore_n 3, 1) := dk_62 (dk_at dksJ2_listFromTrustedArray_1 5 rfl rfl)
theorem dJ2_listFromTrustedArray_30 : decode cJ2_listFromTrustedArray 30 = .ok (.iload_n 3, 1) := dk_29 (dk_at dksJ2_listFromTrustedArray_1 6 rfl rfl)
theorem dJ2_listFromTrustedArray_31 : decode cJ2_listFromTrustedArray 31 = .ok (.iload_n 2, 1) := dk_28 (dk_at dksJ2_listFromTrustedArray_1 7 rfl rfl)
theorem dJ2_listFromTrustedArray_32 : decode cJ2_listFromTrustedArray 32 = .ok (.if_icmp .ge 20, 3) := dk_162 0 20 (dk_at dksJ2_listFromTrustedArray_1 8 rfl rfl)
theorem dJ2_listFromTrustedArray_35 : decode cJ2_listFromTrustedArray 35 = .ok (.aload_n 1, 1) := dk_43 (dk_at dksJ2_listFromTrustedArray_1 11 rfl rfl)
theorem dJ2_listFromTrustedArray_36 : decode cJ2_listFromTrustedArray 36 = .ok (.iload_n 3, 1) := dk_29 (dk_at dksJ2_listFromTrustedArray_1 12 rfl rfl)
theorem dJ2_listFromTrustedArray_37 : decode cJ2_listFromTrustedArray 37 = .ok (.aaload, 1) := dk_50 (dk_at dksJ2_listFromTrustedArray_1 13 rfl rfl)
theorem dJ2_listFromTrustedArray_38 : decode cJ2_listFromTrustedArray 38 = .ok (.astore 4, 2) := dk_58 4 (dk_at dksJ2_listFromTrustedArray_1 14 rfl rfl)
theorem dJ2_listFromTrustedArray_40 : decode cJ2_listFromTrustedArray 40 = .ok (.aload 4, 2) := dk_25 4 (dk_at dksJ2_listFromTrustedArray_1 16 rfl rfl)
theorem dJ2_listFromTrustedArray_42 : decode cJ2_listFromTrustedArray 42 = .ok (.invokestatic 37, 3) := dk_184 0 37 (dk_at dksJ2_listFromTrustedArray_1 18 rfl rfl)
theorem dJ2_listFromTrustedArray_45 : decode cJ2_listFromTrustedArray 45 = .ok (.pop, 1) := dk_87 (dk_at dksJ2_listFromTrustedArray_1 21 rfl rfl)
theorem dJ2_listFromTrustedArray_46 : decode cJ2_listFromTrustedArray 46 = .ok (.iinc 3 1, 3) := dk_132 3 1 (dk_at dksJ2_listFromTrustedArray_2 0 rfl rfl)
theorem dJ2_listFromTrustedArray_49 : decode cJ2_listFromTrustedArray 49 = .ok (.goto (-19), 3) := dk_167 255 237 (dk_at dksJ2_listFromTrustedArray_2 3 rfl rfl)
theorem dJ2_listFromTrustedArray_52 : decode cJ2_listFromTrustedArray 52 = .ok (.aload_n 0, 1) := dk_42 (dk_at dksJ2_listFromTrustedArray_2 6 rfl rfl)
theorem dJ2_listFromTrustedArray_53 : decode cJ2_listFromTrustedArray 53 = .ok (.arraylength, 1) := dk_190 (dk_at dksJ2_listFromTrustedArray_2 7 rfl rfl)
theorem dJ2_listFromTrustedArray_54 : decode cJ2_listFromTrustedArray 54 = .ok (.tableswitch 61 0 2 #[26, 32, 45], 26) := by decide +kernel
theorem dJ2_listFromTrustedArray_80 : decode cJ2_listFromTrustedArray 80 = .ok (.getstatic 60, 3) := dk_178 0 60 (dk_at dksJ2_listFromTrustedArray_4 0 rfl rfl)
theorem dJ2_listFromTrustedArray_83 : decode cJ2_listFromTrustedArray 83 = .ok (.goto 41, 3) := dk_167 0 41 (dk_at dksJ2_listFromTrustedArray_4 3 rfl rfl)
theorem dJ2_listFromTrustedArray_86 : decode cJ2_listFromTrustedArray 86 = .ok (.new 10, 3) := dk_187 0 10 (dk_at dksJ2_listFromTrustedArray_4 6 rfl rfl)
theorem dJ2_listFromTrustedArray_89 : decode cJ2_listFromTrustedArray 89 = .ok (.dup, 1) := dk_89 (dk_at dksJ2_listFromTrustedArray_4 9 rfl rfl)
theorem dJ2_listFromTrustedArray_90 : decode cJ2_listFromTrustedArray 90 = .ok (.aload_n 0, 1) := dk_42 (dk_at dksJ2_listFromTrustedArray_4 10 rfl rfl)
theorem dJ2_listFromTrustedArray_91 : decode cJ2_listFromTrustedArray 91 = .ok (.iconst 0, 1) := dk_3 (dk_at dksJ2_listFromTrustedArray_4 11 rfl rfl)
theorem dJ2_listFromTrustedArray_92 : decode cJ2_listFromTrustedArray 92 = .ok (.aaload, 1) := dk_50 (dk_at dksJ2_listFromTrustedArray_4 12 rfl rfl)
theorem dJ2_listFromTrustedArray_93 : decode cJ2_listFromTrustedArray 93 = .ok (.invokespecial 64, 3) := dk_183 0 64 (dk_at dksJ2_listFromTrustedArray_4 13 rfl rfl)
theorem dJ2_listFromTrustedArray_96 : decode cJ2_listFromTrustedArray 96 = .ok (.goto 28, 3) := dk_167 0 28 (dk_at dksJ2_listFromTrustedArray_4 16 rfl rfl)
theorem dJ2_listFromTrustedArray_99 : decode cJ2_listFromTrustedArray 99 = .ok (.new 10, 3) := dk_187 0 10 (dk_at dksJ2_listFromTrustedArray_4 19 rfl rfl)
theorem dJ2_listFromTrustedArray_102 : decode cJ2_listFromTrustedArray 102 = .ok (.dup, 1) := dk_89 (dk_at dksJ2_listFromTrustedArray_4 22 rfl rfl)
theorem dJ2_listFromTrustedArray_103 : decode cJ2_listFromTrustedArray 103 = .ok (.aload_n 0, 1) := dk_42 (dk_at dksJ2_listFromTrustedArray_4 23 rfl rfl)
theorem dJ2_listFromTrustedArray_104 : decode cJ2_listFromTrustedArray 104 = .ok (.iconst 0, 1) := dk_3 (dk_at dksJ2_listFromTrustedArray_5 0 rfl rfl)
theorem dJ2_listFromTrustedArray_105 : decode cJ2_listFromTrustedArray 105 = .ok (.aaload, 1) := dk_50 (dk_at dksJ2_listFromTrustedArray_5 1 rfl rfl)
theorem dJ2_listFromTrustedArray_106 : decode cJ2_listFromTrustedArray 106 = .ok (.aload_n 0, 1) := dk_42 (dk_at dksJ2_listFromTrustedArray_5 2 rfl rfl)
theorem dJ2_listFromTrustedArray_107 : decode cJ2_listFromTrustedArray 107 = .ok (.iconst 1, 1) := dk_4 (dk_at dksJ2_listFromTrustedArray_5 3 rfl rfl)
theorem dJ2_listFromTrustedArray_108 : decode cJ2_listFromTrustedArray 108 = .ok (.aaload, 1) := dk_50 (dk_at dksJ2_listFromTrustedArray_5 4 rfl rfl)
theorem dJ2_listFromTrustedArray_109 : decode cJ2_listFromTrustedArray 109 = .ok (.invokespecial 67, 3) := dk_183 0 67 (dk_at dksJ2_listFromTrustedArray_5 5 rfl rfl)
theorem dJ2_listFromTrustedArray_112 : decode cJ2_listFromTrustedArray 112 = .ok (.goto 12, 3) := dk_167 0 12 (dk_at dksJ2_listFromTrustedArray_5 8 rfl rfl)
theorem dJ2_listFromTrustedArray_115 : decode cJ2_listFromTrustedArray 115 = .ok (.new 12, 3) := dk_187 0 12 (dk_at dksJ2_listFromTrustedArray_5 11 rfl rfl)
theorem dJ2_listFromTrustedArray_118 : decode cJ2_listFromTrustedArray 118 = .ok (.dup, 1) := dk_89 (dk_at dksJ2_listFromTrustedArray_5 14 rfl rfl)
theorem dJ2_listFromTrustedArray_119 : decode cJ2_listFromTrustedArray 119 = .ok (.aload_n 0, 1) := dk_42 (dk_at dksJ2_listFromTrustedArray_5 15 rfl rfl)
theorem dJ2_listFromTrustedArray_120 : decode cJ2_listFromTrustedArray 120 = .ok (.iconst 0, 1) := dk_3 (dk_at dksJ2_listFromTrustedArray_5 16 rfl rfl)
theorem dJ2_listFromTrustedArray_121 : decode cJ2_listFromTrustedArray 121 = .ok (.invokespecial 43, 3) := dk_183 0 43 (dk_at dksJ2_listFromTrustedArray_5 17 rfl rfl)
theorem dJ2_listFromTrustedArray_124 : decode cJ2_listFromTrustedArray 124 = .ok (.areturn, 1) := dk_176 (dk_at dksJ2_listFromTrustedArray_5 20 rfl rfl)
theorem q127 : (Jvm.Cond.initialized "java/util/ImmutableCollections") ∈ lw_all := lw_g (lw_at lw_m1 5 rfl) rfl
theorem q210 : (Jvm.Cond.static ({ cls := "java/util/ImmutableCollections", name := "listFromTrustedArray", desc := "([Ljava/lang/Object;)Ljava/util/List;" } : Jvm.MethodName)) ∈ lw_all := lw_g (lw_at lw_m1 88 rfl) rfl
theorem q211 : (Jvm.Cond.code ({ cls := "java/util/ImmutableCollections", name := "listFromTrustedArray", desc := "([Ljava/lang/Object;)Ljava/util/List;" } : Jvm.MethodName) prog_55_method_5_code (5 : Nat) (Option.some (Jvm.ClassFile.FieldType.object "java/util/List"))) ∈ lw_all := lw_g (lw_at lw_m1 89 rfl) rfl
theorem q212 : (Jvm.Cond.fieldLink "java/util/ImmutableCollections" (46 : Nat) "java/util/ImmutableCollections" "$assertionsDisabled" "Z") ∈ lw_all := lw_g (lw_at lw_m1 90 rfl) rfl
theorem q213 : (Jvm.Cond.laysStatic "java/util/ImmutableCollections" "$assertionsDisabled" "Z") ∈ lw_tbl := lw_at lw_m1 91 rfl
theorem q214 : (Jvm.Cond.methodLink "java/util/ImmutableCollections" (51 : Nat) ({ cls := "java/lang/Object", name := "getClass", desc := "()Ljava/lang/Class;" } : Jvm.MethodName)) ∈ lw_all := lw_g (lw_at lw_m1 92 rfl) rfl
theorem q248 : (Jvm.Cond.classLink "java/util/ImmutableCollections" (55 : Nat) "[Ljava/lang/Object;") ∈ lw_all := lw_g (lw_at lw_m1 126 rfl) rfl
theorem q249 : (Jvm.Cond.methodLink "java/util/ImmutableCollections" (37 : Nat) ({ cls := "java/util/Objects", name := "requireNonNull", desc := "(Ljava/lang/Object;)Ljava/lang/Object;" } : Jvm.MethodName)) ∈ lw_all := lw_g (lw_at lw_m1 127 rfl) rfl
theorem q252 : (Jvm.Cond.fieldLink "java/util/ImmutableCollections" (60 : Nat) "java/util/ImmutableCollections" "EMPTY_LIST" "Ljava/util/ImmutableCollections$ListN;") ∈ lw_all := lw_g (lw_at lw_m1 130 rfl) rfl
theorem q253 : (Jvm.Cond.laysStatic "java/util/ImmutableCollections" "EMPTY_LIST" "Ljava/util/ImmutableCollections$ListN;") ∈ lw_tbl := lw_at lw_m1 131 rfl
theorem q254 : (Jvm.Cond.classLink "java/util/ImmutableCollections" (10 : Nat) "java/util/ImmutableCollections$List12") ∈ lw_all := lw_g (lw_at lw_m1 132 rfl) rfl
theorem q256 : (Jvm.Cond.methodLink "java/util/ImmutableCollections" (64 : Nat) ({ cls := "java/util/ImmutableCollections$List12", name := "<init>", desc := "(Ljava/lang/Object;)V" } : Jvm.MethodName)) ∈ lw_all := lw_g (lw_at lw_m1 134 rfl) rfl
theorem q271 : (Jvm.Cond.laysStatic "java/util/ImmutableCollections" "EMPTY" "Ljava/lang/Object;") ∈ lw_tbl := lw_at lw_m1 149 rfl
theorem q279 : (Jvm.Cond.methodLink "java/util/ImmutableCollections" (67 : Nat) ({ cls := "java/util/ImmutableCollections$List12", name := "<init>", desc := "(Ljava/lang/Object;Ljava/lang/Object;)V" } : Jvm.MethodName)) ∈ lw_all := lw_g (lw_at lw_m1 157 rfl) rfl
theorem q282 : (Jvm.Cond.classLink "java/util/ImmutableCollections" (12 : Nat) "java/util/ImmutableCollections$ListN") ∈ lw_all := lw_g (lw_at lw_m1 160 rfl) rfl
theorem q284 : (Jvm.Cond.methodLinkNest "java/util/ImmutableCollections" (43 : Nat) ({ cls := "java/util/ImmutableCollections$ListN", name := "<init>", desc := "([Ljava/lang/Object;Z)V" } : Jvm.MethodName) "java/util/ImmutableCollections") ∈ lw_tbl := lw_at lw_m1 162 rfl

abbrev cJ3_requireNonNull : ByteArray := prog_68_method_10_code
def yJ3_requireNonNull : MethodName := ⟨RJ3, "requireNonNull", "(Ljava/lang/Object;)Ljava/lang/Object;"⟩
def dkwJ3_requireNonNull_0 : List UInt8 := [42, 199, 0, 11, 187, 0, 84, 89, 183, 0, 86, 191, 42, 176]
abbrev dktJ3_requireNonNull_0 : List UInt8 := dkwJ3_requireNonNull_0 ++ []
theorem dksJ3_requireNonNull_0 : cJ3_requireNonNull.data.toList.drop 0 = dktJ3_requireNonNull_0 := by decide +kernel
theorem dJ3_requireNonNull_0 : decode cJ3_requireNonNull 0 = .ok (.aload_n 0, 1) := dk_42 (dk_at dksJ3_requireNonNull_0 0 rfl rfl)
theorem dJ3_requireNonNull_1 : decode cJ3_requireNonNull 1 = .ok (.ifnonnull 11, 3) := dk_199 0 11 (dk_at dksJ3_requireNonNull_0 1 rfl rfl)
theorem dJ3_requireNonNull_4 : decode cJ3_requireNonNull 4 = .ok (.new 84, 3) := dk_187 0 84 (dk_at dksJ3_requireNonNull_0 4 rfl rfl)
theorem dJ3_requireNonNull_7 : decode cJ3_requireNonNull 7 = .ok (.dup, 1) := dk_89 (dk_at dksJ3_requireNonNull_0 7 rfl rfl)
theorem dJ3_requireNonNull_8 : decode cJ3_requireNonNull 8 = .ok (.invokespecial 86, 3) := dk_183 0 86 (dk_at dksJ3_requireNonNull_0 8 rfl rfl)
theorem dJ3_requireNonNull_11 : decode cJ3_requireNonNull 11 = .ok (.athrow, 1) := dk_191 (dk_at dksJ3_requireNonNull_0 11 rfl rfl)
theorem dJ3_requireNonNull_12 : decode cJ3_requireNonNull 12 = .ok (.aload_n 0, 1) := dk_42 (dk_at dksJ3_requireNonNull_0 12 rfl rfl)
theorem dJ3_requireNonNull_13 : decode cJ3_requireNonNull 13 = .ok (.areturn, 1) := dk_176 (dk_at dksJ3_requireNonNull_0 13 rfl rfl)
theorem q128 : (Jvm.Cond.initialized "java/util/Objects") ∈ lw_all := lw_g (lw_at lw_m1 6 rfl) rfl
theorem q250 : (Jvm.Cond.static ({ cls := "java/util/Objects", name := "requireNonNull", desc := "(Ljava/lang/Object;)Ljava/lang/Object;" } : Jvm.MethodName)) ∈ lw_all := lw_g (lw_at lw_m1 128 rfl) rfl
theorem q251 : (Jvm.Cond.code ({ cls := "java/util/Objects", name := "requireNonNull", desc := "(Ljava/lang/Object;)Ljava/lang/Object;" } : Jvm.MethodName) prog_68_method_10_code (1 : Nat) (Option.some (Jvm.ClassFile.FieldType.object "java/lang/Object"))) ∈ lw_all := lw_g (lw_at lw_m1 129 rfl) rfl

abbrev cJ4_init : ByteArray := prog_42_method_1_code
def yJ4_init : MethodName := ⟨RJ4, "<init>", "()V"⟩
theorem dJ4_init_0 : decode cJ4_init 0 = .ok (.aload_n 0, 1) := by decide +kernel
theorem dJ4_init_1 : decode cJ4_init 1 = .ok (.invokespecial 1, 3) := by decide +kernel
theorem dJ4_init_4 : decode cJ4_init 4 = .ok (.return_, 1) := by decide +kernel
abbrev cJ4_isEmpty : ByteArray := prog_42_method_4_code
def yJ4_isEmpty : MethodName := ⟨RJ4, "isEmpty", "()Z"⟩
def dkwJ4_isEmpty_0 : List UInt8 := [42, 182, 0, 7, 154, 0, 7, 4, 167, 0, 4, 3, 172]
abbrev dktJ4_isEmpty_0 : List UInt8 := dkwJ4_isEmpty_0 ++ []
theorem dksJ4_isEmpty_0 : cJ4_isEmpty.data.toList.drop 0 = dktJ4_isEmpty_0 := by decide +kernel
theorem dJ4_isEmpty_0 : decode cJ4_isEmpty 0 = .ok (.aload_n 0, 1) := dk_42 (dk_at dksJ4_isEmpty_0 0 rfl rfl)
theorem dJ4_isEmpty_1 : decode cJ4_isEmpty 1 = .ok (.invokevirtual 7, 3) := dk_182 0 7 (dk_at dksJ4_isEmpty_0 1 rfl rfl)
theorem dJ4_isEmpty_4 : decode cJ4_isEmpty 4 = .ok (.ifCond .ne 7, 3) := dk_154 0 7 (dk_at dksJ4_isEmpty_0 4 rfl rfl)
theorem dJ4_isEmpty_7 : decode cJ4_isEmpty 7 = .ok (.iconst 1, 1) := dk_4 (dk_at dksJ4_isEmpty_0 7 rfl rfl)
theorem dJ4_isEmpty_8 : decode cJ4_isEmpty 8 = .ok (.goto 4, 3) := dk_167 0 4 (dk_at dksJ4_isEmpty_0 8 rfl rfl)
theorem dJ4_isEmpty_11 : decode cJ4_isEmpty 11 = .ok (.iconst 0, 1) := dk_3 (dk_at dksJ4_isEmpty_0 11 rfl rfl)
theorem dJ4_isEmpty_12 : decode cJ4_isEmpty 12 = .ok (.ireturn, 1) := dk_172 (dk_at dksJ4_isEmpty_0 12 rfl rfl)
theorem q129 : (Jvm.Cond.initialized "java/util/AbstractCollection") ∈ lw_all := lw_g (lw_at lw_m1 7 rfl) rfl
theorem q266 : (Jvm.Cond.instanceMethod ({ cls := "java/util/AbstractCollection", name := "<init>", desc := "()V" } : Jvm.MethodName)) ∈ lw_all := lw_g (lw_at lw_m1 144 rfl) rfl
theorem q267 : (Jvm.Cond.code ({ cls := "java/util/AbstractCollection", name := "<init>", desc := "()V" } : Jvm.MethodName) prog_42_method_1_code (1 : Nat) (Option.none : Option Jvm.ClassFile.FieldType)) ∈ lw_all := lw_g (lw_at lw_m1 145 rfl) rfl
theorem q268 : (Jvm.Cond.methodLink "java/util/AbstractCollection" (1 : Nat) ({ cls := "java/lang/Object", name := "<init>", desc := "()V" } : Jvm.MethodName)) ∈ lw_all := lw_g (lw_at lw_m1 146 rfl) rfl
theorem q984 : (Jvm.Cond.declares ({ cls := "java/util/AbstractCollection", name := "size", desc := "()I" } : Jvm.MethodName)) ∈ lw_tbl := lw_at lw_m4 142 rfl
theorem q2295 : (Jvm.Cond.declares ({ cls := "java/util/AbstractCollection", name := "isEmpty", desc := "()Z" } : Jvm.MethodName)) ∈ lw_tbl := lw_at lw_m10 13 rfl
theorem q2297 : (Jvm.Cond.instanceMethod ({ cls := "java/util/AbstractCollection", name := "isEmpty", desc := "()Z" } : Jvm.MethodName)) ∈ lw_all := lw_g (lw_at lw_m10 15 rfl) rfl
theorem q2298 : (Jvm.Cond.code ({ cls := "java/util/AbstractCollection", name := "isEmpty", desc := "()Z" } : Jvm.MethodName) prog_42_method_4_code (1 : Nat) (Option.some Jvm.ClassFile.FieldType.boolean)) ∈ lw_all := lw_g (lw_at lw_m10 16 rfl) rfl
theorem q2299 : (Jvm.Cond.methodLink "java/util/AbstractCollection" (7 : Nat) ({ cls := "java/util/AbstractCollection", name := "size", desc := "()I" } : Jvm.MethodName)) ∈ lw_all := lw_g (lw_at lw_m10 17 rfl) rfl
theorem q2958 : (Jvm.Cond.sameMethod "java/util/AbstractCollection" "java/util/AbstractCollection" "size" "()I") ∈ lw_all := lw_g (lw_at lw_m12 196 rfl) rfl

abbrev cJ5_init : ByteArray := prog_56_method_1_code
def yJ5_init : MethodName := ⟨RJ5, "<init>", "()V"⟩
theorem dJ5_init_0 : decode cJ5_init 0 = .ok (.aload_n 0, 1) := by decide +kernel
theorem dJ5_init_1 : decode cJ5_init 1 = .ok (.invokespecial 1, 3) := by decide +kernel
theorem dJ5_init_4 : decode cJ5_init 4 = .ok (.return_, 1) := by decide +kernel
theorem q130 : (Jvm.Cond.initialized "java/util/ImmutableCollections$AbstractImmutableCollection") ∈ lw_all := lw_g (lw_at lw_m1 8 rfl) rfl
theorem q263 : (Jvm.Cond.instanceMethod ({ cls := "java/util/ImmutableCollections$AbstractImmutableCollection", name := "<init>", desc := "()V" } : Jvm.MethodName)) ∈ lw_all := lw_g (lw_at lw_m1 141 rfl) rfl
theorem q264 : (Jvm.Cond.code ({ cls := "java/util/ImmutableCollections$AbstractImmutableCollection", name := "<init>", desc := "()V" } : Jvm.MethodName) prog_56_method_1_code (1 : Nat) (Option.none : Option Jvm.ClassFile.FieldType)) ∈ lw_all := lw_g (lw_at lw_m1 142 rfl) rfl
theorem q265 : (Jvm.Cond.methodLink "java/util/ImmutableCollections$AbstractImmutableCollection" (1 : Nat) ({ cls := "java/util/AbstractCollection", name := "<init>", desc := "()V" } : Jvm.MethodName)) ∈ lw_all := lw_g (lw_at lw_m1 143 rfl) rfl

abbrev cJ6_init : ByteArray := prog_57_method_1_code
def yJ6_init : MethodName := ⟨RJ6, "<init>", "()V"⟩
theorem dJ6_init_0 : decode cJ6_init 0 = .ok (.aload_n 0, 1) := by decide +kernel
theorem dJ6_init_1 : decode cJ6_init 1 = .ok (.invokespecial 1, 3) := by decide +kernel
theorem dJ6_init_4 : decode cJ6_init 4 = .ok (.return_, 1) := by decide +kernel
abbrev cJ6_outOfBounds : ByteArray := prog_57_method_17_code
def yJ6_outOfBounds : MethodName := ⟨RJ6, "outOfBounds", "(I)Ljava/lang/IndexOutOfBoundsException;"⟩
def dkwJ6_outOfBounds_1 : List UInt8 := [182, 0, 36, 42, 182, 0, 13, 182, 0, 40, 182, 0, 43, 183, 0, 47, 176]
abbrev dktJ6_outOfBounds_1 : List UInt8 := dkwJ6_outOfBounds_1 ++ []
def dkwJ6_outOfBounds_0 : List UInt8 := [187, 0, 29, 89, 187, 0, 31, 89, 183, 0, 33, 18, 116, 182, 0, 36, 27, 182, 0, 40, 18, 118]
abbrev dktJ6_outOfBounds_0 : List UInt8 := dkwJ6_outOfBounds_0 ++ dktJ6_outOfBounds_1
theorem dksJ6_outOfBounds_0 : cJ6_outOfBounds.data.toList.drop 0 = dktJ6_outOfBounds_0 := by decide +kernel
theorem dksJ6_outOfBounds_1 : cJ6_outOfBounds.data.toList.drop 22 = dktJ6_outOfBounds_1 := dk_seg dksJ6_outOfBounds_0 22 rfl rfl
theorem dJ6_outOfBounds_0 : decode cJ6_outOfBounds 0 = .ok (.new 29, 3) := dk_187 0 29 (dk_at dksJ6_outOfBounds_0 0 rfl rfl)
theorem dJ6_outOfBounds_3 : decode cJ6_outOfBounds 3 = .ok (.dup, 1) := dk_89 (dk_at dksJ6_outOfBounds_0 3 rfl rfl)
theorem dJ6_outOfBounds_4 : decode cJ6_outOfBounds 4 = .ok (.new 31, 3) := dk_187 0 31 (dk_at dksJ6_outOfBounds_0 4 rfl rfl)
theorem dJ6_outOfBounds_7 : decode cJ6_outOfBounds 7 = .ok (.dup, 1) := dk_89 (dk_at dksJ6_outOfBounds_0 7 rfl rfl)
theorem dJ6_outOfBounds_8 : decode cJ6_outOfBounds 8 = .ok (.invokespecial 33, 3) := dk_183 0 33 (dk_at dksJ6_outOfBounds_0 8 rfl rfl)
theorem dJ6_outOfBounds_11 : decode cJ6_outOfBounds 11 = .ok (.ldc 116, 2) := dk_18 116 (dk_at dksJ6_outOfBounds_0 11 rfl rfl)
theorem dJ6_outOfBounds_13 : decode cJ6_outOfBounds 13 = .ok (.invokevirtual 36, 3) := dk_182 0 36 (dk_at dksJ6_outOfBounds_0 13 rfl rfl)
theorem dJ6_outOfBounds_16 : decode cJ6_outOfBounds 16 = .ok (.iload_n 1, 1) := dk_27 (dk_at dksJ6_outOfBounds_0 16 rfl rfl)
theorem dJ6_outOfBounds_17 : decode cJ6_outOfBounds 17 = .ok (.invokevirtual 40, 3) := dk_182 0 40 (dk_at dksJ6_outOfBounds_0 17 rfl rfl)
theorem dJ6_outOfBounds_20 : decode cJ6_outOfBounds 20 = .ok (.ldc 118, 2) := dk_18 118 (dk_at dksJ6_outOfBounds_0 20 rfl rfl)
theorem dJ6_outOfBounds_22 : decode cJ6_outOfBounds 22 = .ok (.invokevirtual 36, 3) := dk_182 0 36 (dk_at dksJ6_outOfBounds_1 0 rfl rfl)
theorem dJ6_outOfBounds_25 : decode cJ6_outOfBounds 25 = .ok (.aload_n 0, 1) := dk_42 (dk_at dksJ6_outOfBounds_1 3 rfl rfl)
theorem dJ6_outOfBounds_26 : decode cJ6_outOfBounds 26 = .ok (.invokevirtual 13, 3) := dk_182 0 13 (dk_at dksJ6_outOfBounds_1 4 rfl rfl)
theorem dJ6_outOfBounds_29 : decode cJ6_outOfBounds 29 = .ok (.invokevirtual 40, 3) := dk_182 0 40 (dk_at dksJ6_outOfBounds_1 7 rfl rfl)
theorem dJ6_outOfBounds_32 : decode cJ6_outOfBounds 32 = .ok (.invokevirtual 43, 3) := dk_182 0 43 (dk_at dksJ6_outOfBounds_1 10 rfl rfl)
theorem dJ6_outOfBounds_35 : decode cJ6_outOfBounds 35 = .ok (.invokespecial 47, 3) := dk_183 0 47 (dk_at dksJ6_outOfBounds_1 13 rfl rfl)
theorem dJ6_outOfBounds_38 : decode cJ6_outOfBounds 38 = .ok (.areturn, 1) := dk_176 (dk_at dksJ6_outOfBounds_1 16 rfl rfl)
theorem q131 : (Jvm.Cond.initialized "java/util/ImmutableCollections$AbstractImmutableList") ∈ lw_all := lw_g (lw_at lw_m1 9 rfl) rfl
theorem q260 : (Jvm.Cond.instanceMethod ({ cls := "java/util/ImmutableCollections$AbstractImmutableList", name := "<init>", desc := "()V" } : Jvm.MethodName)) ∈ lw_all := lw_g (lw_at lw_m1 138 rfl) rfl
theorem q261 : (Jvm.Cond.code ({ cls := "java/util/ImmutableCollections$AbstractImmutableList", name := "<init>", desc := "()V" } : Jvm.MethodName) prog_57_method_1_code (1 : Nat) (Option.none : Option Jvm.ClassFile.FieldType)) ∈ lw_all := lw_g (lw_at lw_m1 139 rfl) rfl
theorem q262 : (Jvm.Cond.methodLink "java/util/ImmutableCollections$AbstractImmutableList" (1 : Nat) ({ cls := "java/util/ImmutableCollections$AbstractImmutableCollection", name := "<init>", desc := "()V" } : Jvm.MethodName)) ∈ lw_all := lw_g (lw_at lw_m1 140 rfl) rfl
theorem q1604 : (Jvm.Cond.declares ({ cls := "java/util/ImmutableCollections$AbstractImmutableList", name := "outOfBounds", desc := "(I)Ljava/lang/IndexOutOfBoundsException;" } : Jvm.MethodName)) ∈ lw_tbl := lw_at lw_m7 42 rfl
theorem q1606 : (Jvm.Cond.instanceMethod ({ cls := "java/util/ImmutableCollections$AbstractImmutableList", name := "outOfBounds", desc := "(I)Ljava/lang/IndexOutOfBoundsException;" } : Jvm.MethodName)) ∈ lw_all := lw_g (lw_at lw_m7 44 rfl) rfl
theorem q1607 : (Jvm.Cond.code ({ cls := "java/util/ImmutableCollections$AbstractImmutableList", name := "outOfBounds", desc := "(I)Ljava/lang/IndexOutOfBoundsException;" } : Jvm.MethodName) prog_57_method_17_code (2 : Nat) (Option.some (Jvm.ClassFile.FieldType.object "java/lang/IndexOutOfBoundsException"))) ∈ lw_all := lw_g (lw_at lw_m7 45 rfl) rfl
theorem q1608 : (Jvm.Cond.classLink "java/util/ImmutableCollections$AbstractImmutableList" (29 : Nat) "java/lang/IndexOutOfBoundsException") ∈ lw_all := lw_g (lw_at lw_m7 46 rfl) rfl
theorem q1609 : (Jvm.Cond.classLink "java/util/ImmutableCollections$AbstractImmutableList" (31 : Nat) "java/lang/StringBuilder") ∈ lw_all := lw_g (lw_at lw_m7 47 rfl) rfl
theorem q1610 : (Jvm.Cond.methodLink "java/util/ImmutableCollections$AbstractImmutableList" (33 : Nat) ({ cls := "java/lang/StringBuilder", name := "<init>", desc := "()V" } : Jvm.MethodName)) ∈ lw_all := lw_g (lw_at lw_m7 48 rfl) rfl
theorem q1611 : (Jvm.Cond.stringRef "java/util/ImmutableCollections$AbstractImmutableList" (116 : Nat) "Index: ") ∈ lw_tbl := lw_at lw_m7 49 rfl
theorem q1612 : (Jvm.Cond.methodLink "java/util/ImmutableCollections$AbstractImmutableList" (36 : Nat) ({ cls := "java/lang/StringBuilder", name := "append", desc := "(Ljava/lang/String;)Ljava/lang/StringBuilder;" } : Jvm.MethodName)) ∈ lw_all := lw_g (lw_at lw_m7 50 rfl) rfl
theorem q1613 : (Jvm.Cond.methodLink "java/util/ImmutableCollections$AbstractImmutableList" (40 : Nat) ({ cls := "java/lang/StringBuilder", name := "append", desc := "(I)Ljava/lang/StringBuilder;" } : Jvm.MethodName)) ∈ lw_all := lw_g (lw_at lw_m7 51 rfl) rfl
theorem q1614 : (Jvm.Cond.stringRef "java/util/ImmutableCollections$AbstractImmutableList" (118 : Nat) " Size: ") ∈ lw_tbl := lw_at lw_m7 52 rfl
theorem q1615 : (Jvm.Cond.methodLink "java/util/ImmutableCollections$AbstractImmutableList" (13 : Nat) ({ cls := "java/util/ImmutableCollections$AbstractImmutableList", name := "size", desc := "()I" } : Jvm.MethodName)) ∈ lw_all := lw_g (lw_at lw_m7 53 rfl) rfl
theorem q1616 : (Jvm.Cond.sameMethod "java/util/ImmutableCollections$AbstractImmutableList" "java/util/AbstractCollection" "size" "()I") ∈ lw_all := lw_g (lw_at lw_m7 54 rfl) rfl
theorem q1623 : (Jvm.Cond.methodLink "java/util/ImmutableCollections$AbstractImmutableList" (43 : Nat) ({ cls := "java/lang/StringBuilder", name := "toString", desc := "()Ljava/lang/String;" } : Jvm.MethodName)) ∈ lw_all := lw_g (lw_at lw_m7 61 rfl) rfl
theorem q1624 : (Jvm.Cond.methodLink "java/util/ImmutableCollections$AbstractImmutableList" (47 : Nat) ({ cls := "java/lang/IndexOutOfBoundsException", name := "<init>", desc := "(Ljava/lang/String;)V" } : Jvm.MethodName)) ∈ lw_all := lw_g (lw_at lw_m7 62 rfl) rfl

abbrev cJ7_init : ByteArray := prog_58_method_1_code
def yJ7_init : MethodName := ⟨RJ7, "<init>", "(Ljava/lang/Object;)V"⟩
def dkwJ7_init_0 : List UInt8 := [42, 183, 0, 1, 42, 43, 184, 0, 7, 181, 0, 13, 42, 178, 0, 19, 181, 0, 24, 177]
abbrev dktJ7_init_0 : List UInt8 := dkwJ7_init_0 ++ []
theorem dksJ7_init_0 : cJ7_init.data.toList.drop 0 = dktJ7_init_0 := by decide +kernel
theorem dJ7_init_0 : decode cJ7_init 0 = .ok (.aload_n 0, 1) := dk_42 (dk_at dksJ7_init_0 0 rfl rfl)
theorem dJ7_init_1 : decode cJ7_init 1 = .ok (.invokespecial 1, 3) := dk_183 0 1 (dk_at dksJ7_init_0 1 rfl rfl)
theorem dJ7_init_4 : decode cJ7_init 4 = .ok (.aload_n 0, 1) := dk_42 (dk_at dksJ7_init_0 4 rfl rfl)
theorem dJ7_init_5 : decode cJ7_init 5 = .ok (.aload_n 1, 1) := dk_43 (dk_at dksJ7_init_0 5 rfl rfl)
theorem dJ7_init_6 : decode cJ7_init 6 = .ok (.invokestatic 7, 3) := dk_184 0 7 (dk_at dksJ7_init_0 6 rfl rfl)
theorem dJ7_init_9 : decode cJ7_init 9 = .ok (.putfield 13, 3) := dk_181 0 13 (dk_at dksJ7_init_0 9 rfl rfl)
theorem dJ7_init_12 : decode cJ7_init 12 = .ok (.aload_n 0, 1) := dk_42 (dk_at dksJ7_init_0 12 rfl rfl)
theorem dJ7_init_13 : decode cJ7_init 13 = .ok (.getstatic 19, 3) := dk_178 0 19 (dk_at dksJ7_init_0 13 rfl rfl)
theorem dJ7_init_16 : decode cJ7_init 16 = .ok (.putfield 24, 3) := dk_181 0 24 (dk_at dksJ7_init_0 16 rfl rfl)
theorem dJ7_init_19 : decode cJ7_init 19 = .ok (.return_, 1) := dk_177 (dk_at dksJ7_init_0 19 rfl rfl)
abbrev cJ7_init_2 : ByteArray := prog_58_method_2_code
def yJ7_init_2 : MethodName := ⟨RJ7, "<init>", "(Ljava/lang/Object;Ljava/lang/Object;)V"⟩
def dkwJ7_init_2_0 : List UInt8 := [42, 183, 0, 1, 42, 43, 184, 0, 7, 181, 0, 13, 42, 44, 184, 0, 7, 181, 0, 24, 177]
abbrev dktJ7_init_2_0 : List UInt8 := dkwJ7_init_2_0 ++ []
theorem dksJ7_init_2_0 : cJ7_init_2.data.toList.drop 0 = dktJ7_init_2_0 := by decide +kernel
theorem dJ7_init_2_0 : decode cJ7_init_2 0 = .ok (.aload_n 0, 1) := dk_42 (dk_at dksJ7_init_2_0 0 rfl rfl)
theorem dJ7_init_2_1 : decode cJ7_init_2 1 = .ok (.invokespecial 1, 3) := dk_183 0 1 (dk_at dksJ7_init_2_0 1 rfl rfl)
theorem dJ7_init_2_4 : decode cJ7_init_2 4 = .ok (.aload_n 0, 1) := dk_42 (dk_at dksJ7_init_2_0 4 rfl rfl)
theorem dJ7_init_2_5 : decode cJ7_init_2 5 = .ok (.aload_n 1, 1) := dk_43 (dk_at dksJ7_init_2_0 5 rfl rfl)
theorem dJ7_init_2_6 : decode cJ7_init_2 6 = .ok (.invokestatic 7, 3) := dk_184 0 7 (dk_at dksJ7_init_2_0 6 rfl rfl)
theorem dJ7_init_2_9 : decode cJ7_init_2 9 = .ok (.putfield 13, 3) := dk_181 0 13 (dk_at dksJ7_init_2_0 9 rfl rfl)
theorem dJ7_init_2_12 : decode cJ7_init_2 12 = .ok (.aload_n 0, 1) := dk_42 (dk_at dksJ7_init_2_0 12 rfl rfl)
theorem dJ7_init_2_13 : decode cJ7_init_2 13 = .ok (.aload_n 2, 1) := dk_44 (dk_at dksJ7_init_2_0 13 rfl rfl)
theorem dJ7_init_2_14 : decode cJ7_init_2 14 = .ok (.invokestatic 7, 3) := dk_184 0 7 (dk_at dksJ7_init_2_0 14 rfl rfl)
theorem dJ7_init_2_17 : decode cJ7_init_2 17 = .ok (.putfield 24, 3) := dk_181 0 24 (dk_at dksJ7_init_2_0 17 rfl rfl)
theorem dJ7_init_2_20 : decode cJ7_init_2 20 = .ok (.return_, 1) := dk_177 (dk_at dksJ7_init_2_0 20 rfl rfl)
abbrev cJ7_get : ByteArray := prog_58_method_5_code
def yJ7_get : MethodName := ⟨RJ7, "get", "(I)Ljava/lang/Object;"⟩
def dkwJ7_get_1 : List UInt8 := [42, 180, 0, 24, 176, 42, 27, 182, 0, 27, 191]
abbrev dktJ7_get_1 : List UInt8 := dkwJ7_get_1 ++ []
def dkwJ7_get_0 : List UInt8 := [27, 154, 0, 8, 42, 180, 0, 13, 176, 27, 4, 160, 0, 18, 42, 180, 0, 24, 178, 0, 19, 165, 0, 8]
abbrev dktJ7_get_0 : List UInt8 := dkwJ7_get_0 ++ dktJ7_get_1
theorem dksJ7_get_0 : cJ7_get.data.toList.drop 0 = dktJ7_get_0 := by decide +kernel
theorem dksJ7_get_1 : cJ7_get.data.toList.drop 24 = dktJ7_get_1 := dk_seg dksJ7_get_0 24 rfl rfl
theorem dJ7_get_0 : decode cJ7_get 0 = .ok (.iload_n 1, 1) := dk_27 (dk_at dksJ7_get_0 0 rfl rfl)
theorem dJ7_get_1 : decode cJ7_get 1 = .ok (.ifCond .ne 8, 3) := dk_154 0 8 (dk_at dksJ7_get_0 1 rfl rfl)
theorem dJ7_get_4 : decode cJ7_get 4 = .ok (.aload_n 0, 1) := dk_42 (dk_at dksJ7_get_0 4 rfl rfl)
theorem dJ7_get_5 : decode cJ7_get 5 = .ok (.getfield 13, 3) := dk_180 0 13 (dk_at dksJ7_get_0 5 rfl rfl)
theorem dJ7_get_8 : decode cJ7_get 8 = .ok (.areturn, 1) := dk_176 (dk_at dksJ7_get_0 8 rfl rfl)
theorem dJ7_get_9 : decode cJ7_get 9 = .ok (.iload_n 1, 1) := dk_27 (dk_at dksJ7_get_0 9 rfl rfl)
theorem dJ7_get_10 : decode cJ7_get 10 = .ok (.iconst 1, 1) := dk_4 (dk_at dksJ7_get_0 10 rfl rfl)
theorem dJ7_get_11 : decode cJ7_get 11 = .ok (.if_icmp .ne 18, 3) := dk_160 0 18 (dk_at dksJ7_get_0 11 rfl rfl)
theorem dJ7_get_14 : decode cJ7_get 14 = .ok (.aload_n 0, 1) := dk_42 (dk_at dksJ7_get_0 14 rfl rfl)
theorem dJ7_get_15 : decode cJ7_get 15 = .ok (.getfield 24, 3) := dk_180 0 24 (dk_at dksJ7_get_0 15 rfl rfl)
theorem dJ7_get_18 : decode cJ7_get 18 = .ok (.getstatic 19, 3) := dk_178 0 19 (dk_at dksJ7_get_0 18 rfl rfl)
theorem dJ7_get_21 : decode cJ7_get 21 = .ok (.if_acmp .eq 8, 3) := dk_165 0 8 (dk_at dksJ7_get_0 21 rfl rfl)
theorem dJ7_get_24 : decode cJ7_get 24 = .ok (.aload_n 0, 1) := dk_42 (dk_at dksJ7_get_1 0 rfl rfl)
theorem dJ7_get_25 : decode cJ7_get 25 = .ok (.getfield 24, 3) := dk_180 0 24 (dk_at dksJ7_get_1 1 rfl rfl)
theorem dJ7_get_28 : decode cJ7_get 28 = .ok (.areturn, 1) := dk_176 (dk_at dksJ7_get_1 4 rfl rfl)
theorem dJ7_get_29 : decode cJ7_get 29 = .ok (.aload_n 0, 1) := dk_42 (dk_at dksJ7_get_1 5 rfl rfl)
theorem dJ7_get_30 : decode cJ7_get 30 = .ok (.iload_n 1, 1) := dk_27 (dk_at dksJ7_get_1 6 rfl rfl)
theorem dJ7_get_31 : decode cJ7_get 31 = .ok (.invokevirtual 27, 3) := dk_182 0 27 (dk_at dksJ7_get_1 7 rfl rfl)
theorem dJ7_get_34 : decode cJ7_get 34 = .ok (.athrow, 1) := dk_191 (dk_at dksJ7_get_1 10 rfl rfl)
abbrev cJ7_size : ByteArray := prog_58_method_3_code
def yJ7_size : MethodName := ⟨RJ7, "size", "()I"⟩
def dkwJ7_size_0 : List UInt8 := [42, 180, 0, 24, 178, 0, 19, 165, 0, 7, 5, 167, 0, 4, 4, 172]
abbrev dktJ7_size_0 : List UInt8 := dkwJ7_size_0 ++ []
theorem dksJ7_size_0 : cJ7_size.data.toList.drop 0 = dktJ7_size_0 := by decide +kernel
theorem dJ7_size_0 : decode cJ7_size 0 = .ok (.aload_n 0, 1) := dk_42 (dk_at dksJ7_size_0 0 rfl rfl)
theorem dJ7_size_1 : decode cJ7_size 1 = .ok (.getfield 24, 3) := dk_180 0 24 (dk_at dksJ7_size_0 1 rfl rfl)
theorem dJ7_size_4 : decode cJ7_size 4 = .ok (.getstatic 19, 3) := dk_178 0 19 (dk_at dksJ7_size_0 4 rfl rfl)
theorem dJ7_size_7 : decode cJ7_size 7 = .ok (.if_acmp .eq 7, 3) := dk_165 0 7 (dk_at dksJ7_size_0 7 rfl rfl)
theorem dJ7_size_10 : decode cJ7_size 10 = .ok (.iconst 2, 1) := dk_5 (dk_at dksJ7_size_0 10 rfl rfl)
theorem dJ7_size_11 : decode cJ7_size 11 = .ok (.goto 4, 3) := dk_167 0 4 (dk_at dksJ7_size_0 11 rfl rfl)
theorem dJ7_size_14 : decode cJ7_size 14 = .ok (.iconst 1, 1) := dk_4 (dk_at dksJ7_size_0 14 rfl rfl)
theorem dJ7_size_15 : decode cJ7_size 15 = .ok (.ireturn, 1) := dk_172 (dk_at dksJ7_size_0 15 rfl rfl)
theorem q132 : (Jvm.Cond.initialized "java/util/ImmutableCollections$List12") ∈ lw_all := lw_g (lw_at lw_m1 10 rfl) rfl
theorem q241 : (Jvm.Cond.selects "java/util/ImmutableCollections$List12" ({ cls := "java/lang/Object", name := "getClass", desc := "()Ljava/lang/Class;" } : Jvm.MethodName) ({ cls := "java/lang/Object", name := "getClass", desc := "()Ljava/lang/Class;" } : Jvm.MethodName)) ∈ lw_all := lw_g (lw_at lw_m1 119 rfl) rfl
theorem q255 : (Jvm.Cond.instantiable "java/util/ImmutableCollections$List12" (2 : Nat)) ∈ lw_all := lw_g (lw_at lw_m1 133 rfl) rfl
theorem q257 : (Jvm.Cond.instanceMethod ({ cls := "java/util/ImmutableCollections$List12", name := "<init>", desc := "(Ljava/lang/Object;)V" } : Jvm.MethodName)) ∈ lw_all := lw_g (lw_at lw_m1 135 rfl) rfl
theorem q258 : (Jvm.Cond.code ({ cls := "java/util/ImmutableCollections$List12", name := "<init>", desc := "(Ljava/lang/Object;)V" } : Jvm.MethodName) prog_58_method_1_code (2 : Nat) (Option.none : Option Jvm.ClassFile.FieldType)) ∈ lw_all := lw_g (lw_at lw_m1 136 rfl) rfl
theorem q259 : (Jvm.Cond.methodLink "java/util/ImmutableCollections$List12" (1 : Nat) ({ cls := "java/util/ImmutableCollections$AbstractImmutableList", name := "<init>", desc := "()V" } : Jvm.MethodName)) ∈ lw_all := lw_g (lw_at lw_m1 137 rfl) rfl
theorem q269 : (Jvm.Cond.methodLink "java/util/ImmutableCollections$List12" (7 : Nat) ({ cls := "java/util/Objects", name := "requireNonNull", desc := "(Ljava/lang/Object;)Ljava/lang/Object;" } : Jvm.MethodName)) ∈ lw_all := lw_g (lw_at lw_m1 147 rfl) rfl
theorem q270 : (Jvm.Cond.fieldLinkNest "java/util/ImmutableCollections$List12" (19 : Nat) "java/util/ImmutableCollections" "EMPTY" "Ljava/lang/Object;" "java/util/ImmutableCollections") ∈ lw_tbl := lw_at lw_m1 148 rfl
theorem q272 : (Jvm.Cond.fieldLink "java/util/ImmutableCollections$List12" (13 : Nat) "java/util/ImmutableCollections$List12" "e0" "Ljava/lang/Object;") ∈ lw_all := lw_g (lw_at lw_m1 150 rfl) rfl
theorem q273 : (Jvm.Cond.fieldLink "java/util/ImmutableCollections$List12" (24 : Nat) "java/util/ImmutableCollections$List12" "e1" "Ljava/lang/Object;") ∈ lw_all := lw_g (lw_at lw_m1 151 rfl) rfl
theorem q274 : (Jvm.Cond.laysFinal "java/util/ImmutableCollections$List12" "java/util/ImmutableCollections$List12" "e0" "Ljava/lang/Object;") ∈ lw_all := lw_g (lw_at lw_m1 152 rfl) rfl
theorem q275 : (Jvm.Cond.soleField "java/util/ImmutableCollections$List12" "e0") ∈ lw_all := lw_g (lw_at lw_m1 153 rfl) rfl
theorem q276 : (Jvm.Cond.laysFinal "java/util/ImmutableCollections$List12" "java/util/ImmutableCollections$List12" "e1" "Ljava/lang/Object;") ∈ lw_all := lw_g (lw_at lw_m1 154 rfl) rfl
theorem q277 : (Jvm.Cond.soleField "java/util/ImmutableCollections$List12" "e1") ∈ lw_all := lw_g (lw_at lw_m1 155 rfl) rfl
theorem q278 : (Jvm.Cond.superclass "java/util/ImmutableCollections$List12" "java/util/ImmutableCollections$AbstractImmutableList") ∈ lw_all := lw_g (lw_at lw_m1 156 rfl) rfl
theorem q280 : (Jvm.Cond.instanceMethod ({ cls := "java/util/ImmutableCollections$List12", name := "<init>", desc := "(Ljava/lang/Object;Ljava/lang/Object;)V" } : Jvm.MethodName)) ∈ lw_all := lw_g (lw_at lw_m1 158 rfl) rfl
theorem q281 : (Jvm.Cond.code ({ cls := "java/util/ImmutableCollections$List12", name := "<init>", desc := "(Ljava/lang/Object;Ljava/lang/Object;)V" } : Jvm.MethodName) prog_58_method_2_code (3 : Nat) (Option.none : Option Jvm.ClassFile.FieldType)) ∈ lw_all := lw_g (lw_at lw_m1 159 rfl) rfl
theorem q1596 : (Jvm.Cond.castable "java/util/ImmutableCollections$List12" "java/util/List") ∈ lw_tbl := lw_at lw_m7 34 rfl
theorem q1597 : (Jvm.Cond.selects "java/util/ImmutableCollections$List12" ({ cls := "java/util/List", name := "get", desc := "(I)Ljava/lang/Object;" } : Jvm.MethodName) ({ cls := "java/util/ImmutableCollections$List12", name := "get", desc := "(I)Ljava/lang/Object;" } : Jvm.MethodName)) ∈ lw_all := lw_g (lw_at lw_m7 35 rfl) rfl
theorem q1598 : (Jvm.Cond.unhidden "java/util/ImmutableCollections$List12" "get" "(I)Ljava/lang/Object;") ∈ lw_tbl := lw_at lw_m7 36 rfl
theorem q1599 : (Jvm.Cond.instanceMethod ({ cls := "java/util/ImmutableCollections$List12", name := "get", desc := "(I)Ljava/lang/Object;" } : Jvm.MethodName)) ∈ lw_all := lw_g (lw_at lw_m7 37 rfl) rfl
theorem q1600 : (Jvm.Cond.publicMethod ({ cls := "java/util/ImmutableCollections$List12", name := "get", desc := "(I)Ljava/lang/Object;" } : Jvm.MethodName)) ∈ lw_tbl := lw_at lw_m7 38 rfl
theorem q1601 : (Jvm.Cond.code ({ cls := "java/util/ImmutableCollections$List12", name := "get", desc := "(I)Ljava/lang/Object;" } : Jvm.MethodName) prog_58_method_5_code (2 : Nat) (Option.some (Jvm.ClassFile.FieldType.object "java/lang/Object"))) ∈ lw_all := lw_g (lw_at lw_m7 39 rfl) rfl
theorem q1602 : (Jvm.Cond.methodLink "java/util/ImmutableCollections$List12" (27 : Nat) ({ cls := "java/util/ImmutableCollections$List12", name := "outOfBounds", desc := "(I)Ljava/lang/IndexOutOfBoundsException;" } : Jvm.MethodName)) ∈ lw_all := lw_g (lw_at lw_m7 40 rfl) rfl
theorem q1603 : (Jvm.Cond.sameMethod "java/util/ImmutableCollections$List12" "java/util/ImmutableCollections$AbstractImmutableList" "outOfBounds" "(I)Ljava/lang/IndexOutOfBoundsException;") ∈ lw_all := lw_g (lw_at lw_m7 41 rfl) rfl
theorem q1605 : (Jvm.Cond.selects "java/util/ImmutableCollections$List12" ({ cls := "java/util/ImmutableCollections$List12", name := "outOfBounds", desc := "(I)Ljava/lang/IndexOutOfBoundsException;" } : Jvm.MethodName) ({ cls := "java/util/ImmutableCollections$AbstractImmutableList", name := "outOfBounds", desc := "(I)Ljava/lang/IndexOutOfBoundsException;" } : Jvm.MethodName)) ∈ lw_all := lw_g (lw_at lw_m7 43 rfl) rfl
theorem q1617 : (Jvm.Cond.selects "java/util/ImmutableCollections$List12" ({ cls := "java/util/ImmutableCollections$AbstractImmutableList", name := "size", desc := "()I" } : Jvm.MethodName) ({ cls := "java/util/ImmutableCollections$List12", name := "size", desc := "()I" } : Jvm.MethodName)) ∈ lw_all := lw_g (lw_at lw_m7 55 rfl) rfl
theorem q1618 : (Jvm.Cond.instanceMethod ({ cls := "java/util/ImmutableCollections$List12", name := "size", desc := "()I" } : Jvm.MethodName)) ∈ lw_all := lw_g (lw_at lw_m7 56 rfl) rfl
theorem q1619 : (Jvm.Cond.code ({ cls := "java/util/ImmutableCollections$List12", name := "size", desc := "()I" } : Jvm.MethodName) prog_58_method_3_code (1 : Nat) (Option.some Jvm.ClassFile.FieldType.int)) ∈ lw_all := lw_g (lw_at lw_m7 57 rfl) rfl
theorem q2157 : (Jvm.Cond.selects "java/util/ImmutableCollections$List12" ({ cls := "java/util/List", name := "size", desc := "()I" } : Jvm.MethodName) ({ cls := "java/util/ImmutableCollections$List12", name := "size", desc := "()I" } : Jvm.MethodName)) ∈ lw_all := lw_g (lw_at lw_m9 115 rfl) rfl
theorem q2158 : (Jvm.Cond.unhidden "java/util/ImmutableCollections$List12" "size" "()I") ∈ lw_tbl := lw_at lw_m9 116 rfl
theorem q2159 : (Jvm.Cond.publicMethod ({ cls := "java/util/ImmutableCollections$List12", name := "size", desc := "()I" } : Jvm.MethodName)) ∈ lw_tbl := lw_at lw_m9 117 rfl
theorem q2960 : (Jvm.Cond.selects "java/util/ImmutableCollections$List12" ({ cls := "java/util/AbstractCollection", name := "size", desc := "()I" } : Jvm.MethodName) ({ cls := "java/util/ImmutableCollections$List12", name := "size", desc := "()I" } : Jvm.MethodName)) ∈ lw_all := lw_g (lw_at lw_m12 198 rfl) rfl
theorem q2971 : (Jvm.Cond.castable "java/util/ImmutableCollections$List12" "java/lang/Object") ∈ lw_tbl := lw_at lw_m12 209 rfl

abbrev cJ8_init : ByteArray := prog_60_method_1_code
def yJ8_init : MethodName := ⟨RJ8, "<init>", "([Ljava/lang/Object;Z)V"⟩
def dkwJ8_init_0 : List UInt8 := [42, 183, 0, 1, 42, 43, 181, 0, 7, 42, 28, 181, 0, 13, 177]
abbrev dktJ8_init_0 : List UInt8 := dkwJ8_init_0 ++ []
theorem dksJ8_init_0 : cJ8_init.data.toList.drop 0 = dktJ8_init_0 := by decide +kernel
theorem dJ8_init_0 : decode cJ8_init 0 = .ok (.aload_n 0, 1) := dk_42 (dk_at dksJ8_init_0 0 rfl rfl)
theorem dJ8_init_1 : decode cJ8_init 1 = .ok (.invokespecial 1, 3) := dk_183 0 1 (dk_at dksJ8_init_0 1 rfl rfl)
theorem dJ8_init_4 : decode cJ8_init 4 = .ok (.aload_n 0, 1) := dk_42 (dk_at dksJ8_init_0 4 rfl rfl)
theorem dJ8_init_5 : decode cJ8_init 5 = .ok (.aload_n 1, 1) := dk_43 (dk_at dksJ8_init_0 5 rfl rfl)
theorem dJ8_init_6 : decode cJ8_init 6 = .ok (.putfield 7, 3) := dk_181 0 7 (dk_at dksJ8_init_0 6 rfl rfl)
theorem dJ8_init_9 : decode cJ8_init 9 = .ok (.aload_n 0, 1) := dk_42 (dk_at dksJ8_init_0 9 rfl rfl)
theorem dJ8_init_10 : decode cJ8_init 10 = .ok (.iload_n 2, 1) := dk_28 (dk_at dksJ8_init_0 10 rfl rfl)
theorem dJ8_init_11 : decode cJ8_init 11 = .ok (.putfield 13, 3) := dk_181 0 13 (dk_at dksJ8_init_0 11 rfl rfl)
theorem dJ8_init_14 : decode cJ8_init 14 = .ok (.return_, 1) := dk_177 (dk_at dksJ8_init_0 14 rfl rfl)
abbrev cJ8_size : ByteArray := prog_60_method_3_code
def yJ8_size : MethodName := ⟨RJ8, "size", "()I"⟩
def dkwJ8_size_0 : List UInt8 := [42, 180, 0, 7, 190, 172]
abbrev dktJ8_size_0 : List UInt8 := dkwJ8_size_0 ++ []
theorem dksJ8_size_0 : cJ8_size.data.toList.drop 0 = dktJ8_size_0 := by decide +kernel
theorem dJ8_size_0 : decode cJ8_size 0 = .ok (.aload_n 0, 1) := dk_42 (dk_at dksJ8_size_0 0 rfl rfl)
theorem dJ8_size_1 : decode cJ8_size 1 = .ok (.getfield 7, 3) := dk_180 0 7 (dk_at dksJ8_size_0 1 rfl rfl)
theorem dJ8_size_4 : decode cJ8_size 4 = .ok (.arraylength, 1) := dk_190 (dk_at dksJ8_size_0 4 rfl rfl)
theorem dJ8_size_5 : decode cJ8_size 5 = .ok (.ireturn, 1) := dk_172 (dk_at dksJ8_size_0 5 rfl rfl)
abbrev cJ8_get : ByteArray := prog_60_method_4_code
def yJ8_get : MethodName := ⟨RJ8, "get", "(I)Ljava/lang/Object;"⟩
def dkwJ8_get_0 : List UInt8 := [42, 180, 0, 7, 27, 50, 176]
abbrev dktJ8_get_0 : List UInt8 := dkwJ8_get_0 ++ []
theorem dksJ8_get_0 : cJ8_get.data.toList.drop 0 = dktJ8_get_0 := by decide +kernel
theorem dJ8_get_0 : decode cJ8_get 0 = .ok (.aload_n 0, 1) := dk_42 (dk_at dksJ8_get_0 0 rfl rfl)
theorem dJ8_get_1 : decode cJ8_get 1 = .ok (.getfield 7, 3) := dk_180 0 7 (dk_at dksJ8_get_0 1 rfl rfl)
theorem dJ8_get_4 : decode cJ8_get 4 = .ok (.iload_n 1, 1) := dk_27 (dk_at dksJ8_get_0 4 rfl rfl)
theorem dJ8_get_5 : decode cJ8_get 5 = .ok (.aaload, 1) := dk_50 (dk_at dksJ8_get_0 5 rfl rfl)
theorem dJ8_get_6 : decode cJ8_get 6 = .ok (.areturn, 1) := dk_176 (dk_at dksJ8_get_0 6 rfl rfl)
theorem q133 : (Jvm.Cond.initialized "java/util/ImmutableCollections$ListN") ∈ lw_all := lw_g (lw_at lw_m1 11 rfl) rfl
theorem q242 : (Jvm.Cond.selects "java/util/ImmutableCollections$ListN" ({ cls := "java/lang/Object", name := "getClass", desc := "()Ljava/lang/Class;" } : Jvm.MethodName) ({ cls := "java/lang/Object", name := "getClass", desc := "()Ljava/lang/Class;" } : Jvm.MethodName)) ∈ lw_all := lw_g (lw_at lw_m1 120 rfl) rfl
theorem q283 : (Jvm.Cond.instantiable "java/util/ImmutableCollections$ListN" (2 : Nat)) ∈ lw_all := lw_g (lw_at lw_m1 161 rfl) rfl
theorem q285 : (Jvm.Cond.instanceMethod ({ cls := "java/util/ImmutableCollections$ListN", name := "<init>", desc := "([Ljava/lang/Object;Z)V" } : Jvm.MethodName)) ∈ lw_all := lw_g (lw_at lw_m1 163 rfl) rfl
theorem q286 : (Jvm.Cond.code ({ cls := "java/util/ImmutableCollections$ListN", name := "<init>", desc := "([Ljava/lang/Object;Z)V" } : Jvm.MethodName) prog_60_method_1_code (3 : Nat) (Option.none : Option Jvm.ClassFile.FieldType)) ∈ lw_all := lw_g (lw_at lw_m1 164 rfl) rfl
theorem q287 : (Jvm.Cond.methodLink "java/util/ImmutableCollections$ListN" (1 : Nat) ({ cls := "java/util/ImmutableCollections$AbstractImmutableList", name := "<init>", desc := "()V" } : Jvm.MethodName)) ∈ lw_all := lw_g (lw_at lw_m1 165 rfl) rfl
theorem q288 : (Jvm.Cond.fieldLink "java/util/ImmutableCollections$ListN" (7 : Nat) "java/util/ImmutableCollections$ListN" "elements" "[Ljava/lang/Object;") ∈ lw_all := lw_g (lw_at lw_m1 166 rfl) rfl
theorem q289 : (Jvm.Cond.fieldLink "java/util/ImmutableCollections$ListN" (13 : Nat) "java/util/ImmutableCollections$ListN" "allowNulls" "Z") ∈ lw_all := lw_g (lw_at lw_m1 167 rfl) rfl
theorem q290 : (Jvm.Cond.laysFinal "java/util/ImmutableCollections$ListN" "java/util/ImmutableCollections$ListN" "elements" "[Ljava/lang/Object;") ∈ lw_all := lw_g (lw_at lw_m1 168 rfl) rfl
theorem q291 : (Jvm.Cond.soleField "java/util/ImmutableCollections$ListN" "elements") ∈ lw_all := lw_g (lw_at lw_m1 169 rfl) rfl
theorem q292 : (Jvm.Cond.laysFinal "java/util/ImmutableCollections$ListN" "java/util/ImmutableCollections$ListN" "allowNulls" "Z") ∈ lw_all := lw_g (lw_at lw_m1 170 rfl) rfl
theorem q293 : (Jvm.Cond.soleField "java/util/ImmutableCollections$ListN" "allowNulls") ∈ lw_all := lw_g (lw_at lw_m1 171 rfl) rfl
theorem q294 : (Jvm.Cond.superclass "java/util/ImmutableCollections$ListN" "java/util/ImmutableCollections$AbstractImmutableList") ∈ lw_all := lw_g (lw_at lw_m1 172 rfl) rfl
theorem q1620 : (Jvm.Cond.selects "java/util/ImmutableCollections$ListN" ({ cls := "java/util/ImmutableCollections$AbstractImmutableList", name := "size", desc := "()I" } : Jvm.MethodName) ({ cls := "java/util/ImmutableCollections$ListN", name := "size", desc := "()I" } : Jvm.MethodName)) ∈ lw_all := lw_g (lw_at lw_m7 58 rfl) rfl
theorem q1621 : (Jvm.Cond.instanceMethod ({ cls := "java/util/ImmutableCollections$ListN", name := "size", desc := "()I" } : Jvm.MethodName)) ∈ lw_all := lw_g (lw_at lw_m7 59 rfl) rfl
theorem q1622 : (Jvm.Cond.code ({ cls := "java/util/ImmutableCollections$ListN", name := "size", desc := "()I" } : Jvm.MethodName) prog_60_method_3_code (1 : Nat) (Option.some Jvm.ClassFile.FieldType.int)) ∈ lw_all := lw_g (lw_at lw_m7 60 rfl) rfl
theorem q1625 : (Jvm.Cond.castable "java/util/ImmutableCollections$ListN" "java/util/List") ∈ lw_tbl := lw_at lw_m7 63 rfl
theorem q1626 : (Jvm.Cond.selects "java/util/ImmutableCollections$ListN" ({ cls := "java/util/List", name := "get", desc := "(I)Ljava/lang/Object;" } : Jvm.MethodName) ({ cls := "java/util/ImmutableCollections$ListN", name := "get", desc := "(I)Ljava/lang/Object;" } : Jvm.MethodName)) ∈ lw_all := lw_g (lw_at lw_m7 64 rfl) rfl
theorem q1627 : (Jvm.Cond.unhidden "java/util/ImmutableCollections$ListN" "get" "(I)Ljava/lang/Object;") ∈ lw_tbl := lw_at lw_m7 65 rfl
theorem q1628 : (Jvm.Cond.instanceMethod ({ cls := "java/util/ImmutableCollections$ListN", name := "get", desc := "(I)Ljava/lang/Object;" } : Jvm.MethodName)) ∈ lw_all := lw_g (lw_at lw_m7 66 rfl) rfl
theorem q1629 : (Jvm.Cond.publicMethod ({ cls := "java/util/ImmutableCollections$ListN", name := "get", desc := "(I)Ljava/lang/Object;" } : Jvm.MethodName)) ∈ lw_tbl := lw_at lw_m7 67 rfl
theorem q1630 : (Jvm.Cond.code ({ cls := "java/util/ImmutableCollections$ListN", name := "get", desc := "(I)Ljava/lang/Object;" } : Jvm.MethodName) prog_60_method_4_code (2 : Nat) (Option.some (Jvm.ClassFile.FieldType.object "java/lang/Object"))) ∈ lw_all := lw_g (lw_at lw_m7 68 rfl) rfl
theorem q2160 : (Jvm.Cond.selects "java/util/ImmutableCollections$ListN" ({ cls := "java/util/List", name := "size", desc := "()I" } : Jvm.MethodName) ({ cls := "java/util/ImmutableCollections$ListN", name := "size", desc := "()I" } : Jvm.MethodName)) ∈ lw_all := lw_g (lw_at lw_m9 118 rfl) rfl
theorem q2161 : (Jvm.Cond.unhidden "java/util/ImmutableCollections$ListN" "size" "()I") ∈ lw_tbl := lw_at lw_m9 119 rfl
theorem q2162 : (Jvm.Cond.publicMethod ({ cls := "java/util/ImmutableCollections$ListN", name := "size", desc := "()I" } : Jvm.MethodName)) ∈ lw_tbl := lw_at lw_m9 120 rfl
theorem q2961 : (Jvm.Cond.selects "java/util/ImmutableCollections$ListN" ({ cls := "java/util/AbstractCollection", name := "size", desc := "()I" } : Jvm.MethodName) ({ cls := "java/util/ImmutableCollections$ListN", name := "size", desc := "()I" } : Jvm.MethodName)) ∈ lw_all := lw_g (lw_at lw_m12 199 rfl) rfl
theorem q2970 : (Jvm.Cond.castable "java/util/ImmutableCollections$ListN" "java/lang/Object") ∈ lw_tbl := lw_at lw_m12 208 rfl

abbrev cJ9_init : ByteArray := prog_43_method_1_code
def yJ9_init : MethodName := ⟨RJ9, "<init>", "()V"⟩
def dkwJ9_init_0 : List UInt8 := [42, 183, 0, 1, 42, 3, 181, 0, 7, 177]
abbrev dktJ9_init_0 : List UInt8 := dkwJ9_init_0 ++ []
theorem dksJ9_init_0 : cJ9_init.data.toList.drop 0 = dktJ9_init_0 := by decide +kernel
theorem dJ9_init_0 : decode cJ9_init 0 = .ok (.aload_n 0, 1) := dk_42 (dk_at dksJ9_init_0 0 rfl rfl)
theorem dJ9_init_1 : decode cJ9_init 1 = .ok (.invokespecial 1, 3) := dk_183 0 1 (dk_at dksJ9_init_0 1 rfl rfl)
theorem dJ9_init_4 : decode cJ9_init 4 = .ok (.aload_n 0, 1) := dk_42 (dk_at dksJ9_init_0 4 rfl rfl)
theorem dJ9_init_5 : decode cJ9_init 5 = .ok (.iconst 0, 1) := dk_3 (dk_at dksJ9_init_0 5 rfl rfl)
theorem dJ9_init_6 : decode cJ9_init 6 = .ok (.putfield 7, 3) := dk_181 0 7 (dk_at dksJ9_init_0 6 rfl rfl)
theorem dJ9_init_9 : decode cJ9_init 9 = .ok (.return_, 1) := dk_177 (dk_at dksJ9_init_0 9 rfl rfl)
abbrev cJ9_listIterator : ByteArray := prog_43_method_12_code
def yJ9_listIterator : MethodName := ⟨RJ9, "listIterator", "()Ljava/util/ListIterator;"⟩
def dkwJ9_listIterator_0 : List UInt8 := [42, 3, 182, 0, 47, 176]
abbrev dktJ9_listIterator_0 : List UInt8 := dkwJ9_listIterator_0 ++ []
theorem dksJ9_listIterator_0 : cJ9_listIterator.data.toList.drop 0 = dktJ9_listIterator_0 := by decide +kernel
theorem dJ9_listIterator_0 : decode cJ9_listIterator 0 = .ok (.aload_n 0, 1) := dk_42 (dk_at dksJ9_listIterator_0 0 rfl rfl)
theorem dJ9_listIterator_1 : decode cJ9_listIterator 1 = .ok (.iconst 0, 1) := dk_3 (dk_at dksJ9_listIterator_0 1 rfl rfl)
theorem dJ9_listIterator_2 : decode cJ9_listIterator 2 = .ok (.invokevirtual 47, 3) := dk_182 0 47 (dk_at dksJ9_listIterator_0 2 rfl rfl)
theorem dJ9_listIterator_5 : decode cJ9_listIterator 5 = .ok (.areturn, 1) := dk_176 (dk_at dksJ9_listIterator_0 5 rfl rfl)
theorem q137 : (Jvm.Cond.initialized "java/util/AbstractList") ∈ lw_all := lw_g (lw_at lw_m1 15 rfl) rfl
theorem q364 : (Jvm.Cond.instanceMethod ({ cls := "java/util/AbstractList", name := "<init>", desc := "()V" } : Jvm.MethodName)) ∈ lw_all := lw_g (lw_at lw_m2 2 rfl) rfl
theorem q365 : (Jvm.Cond.code ({ cls := "java/util/AbstractList", name := "<init>", desc := "()V" } : Jvm.MethodName) prog_43_method_1_code (1 : Nat) (Option.none : Option Jvm.ClassFile.FieldType)) ∈ lw_all := lw_g (lw_at lw_m2 3 rfl) rfl
theorem q366 : (Jvm.Cond.methodLink "java/util/AbstractList" (1 : Nat) ({ cls := "java/util/AbstractCollection", name := "<init>", desc := "()V" } : Jvm.MethodName)) ∈ lw_all := lw_g (lw_at lw_m2 4 rfl) rfl
theorem q371 : (Jvm.Cond.fieldLink "java/util/AbstractList" (7 : Nat) "java/util/AbstractList" "modCount" "I") ∈ lw_all := lw_g (lw_at lw_m2 9 rfl) rfl
theorem q383 : (Jvm.Cond.soleField "java/util/AbstractList" "modCount") ∈ lw_all := lw_g (lw_at lw_m2 21 rfl) rfl
theorem q930 : (Jvm.Cond.declares ({ cls := "java/util/AbstractList", name := "listIterator", desc := "()Ljava/util/ListIterator;" } : Jvm.MethodName)) ∈ lw_tbl := lw_at lw_m4 88 rfl
theorem q932 : (Jvm.Cond.instanceMethod ({ cls := "java/util/AbstractList", name := "listIterator", desc := "()Ljava/util/ListIterator;" } : Jvm.MethodName)) ∈ lw_all := lw_g (lw_at lw_m4 90 rfl) rfl
theorem q933 : (Jvm.Cond.code ({ cls := "java/util/AbstractList", name := "listIterator", desc := "()Ljava/util/ListIterator;" } : Jvm.MethodName) prog_43_method_12_code (1 : Nat) (Option.some (Jvm.ClassFile.FieldType.object "java/util/ListIterator"))) ∈ lw_all := lw_g (lw_at lw_m4 91 rfl) rfl
theorem q934 : (Jvm.Cond.methodLink "java/util/AbstractList" (47 : Nat) ({ cls := "java/util/AbstractList", name := "listIterator", desc := "(I)Ljava/util/ListIterator;" } : Jvm.MethodName)) ∈ lw_all := lw_g (lw_at lw_m4 92 rfl) rfl
theorem q935 : (Jvm.Cond.instanceMethod ({ cls := "java/util/AbstractList", name := "listIterator", desc := "(I)Ljava/util/ListIterator;" } : Jvm.MethodName)) ∈ lw_all := lw_g (lw_at lw_m4 93 rfl) rfl
theorem q936 : (Jvm.Cond.sameMethod "java/util/AbstractList" "java/util/AbstractList" "listIterator" "(I)Ljava/util/ListIterator;") ∈ lw_all := lw_g (lw_at lw_m4 94 rfl) rfl
theorem q971 : (Jvm.Cond.declares ({ cls := "java/util/AbstractList", name := "listIterator", desc := "(I)Ljava/util/ListIterator;" } : Jvm.MethodName)) ∈ lw_tbl := lw_at lw_m4 129 rfl
theorem q983 : (Jvm.Cond.sameMethod "java/util/AbstractList" "java/util/AbstractCollection" "size" "()I") ∈ lw_all := lw_g (lw_at lw_m4 141 rfl) rfl
theorem q1013 : (Jvm.Cond.declares ({ cls := "java/util/AbstractList", name := "get", desc := "(I)Ljava/lang/Object;" } : Jvm.MethodName)) ∈ lw_tbl := lw_at lw_m4 171 rfl
theorem q1014 : (Jvm.Cond.sameMethod "java/util/AbstractList" "java/util/AbstractList" "get" "(I)Ljava/lang/Object;") ∈ lw_all := lw_g (lw_at lw_m4 172 rfl) rfl
theorem q2006 : (Jvm.Cond.instanceMethod ({ cls := "java/util/AbstractList", name := "remove", desc := "(I)Ljava/lang/Object;" } : Jvm.MethodName)) ∈ lw_all := lw_g (lw_at lw_m8 204 rfl) rfl
theorem q2007 : (Jvm.Cond.sameMethod "java/util/AbstractList" "java/util/AbstractList" "remove" "(I)Ljava/lang/Object;") ∈ lw_all := lw_g (lw_at lw_m8 205 rfl) rfl
theorem q2015 : (Jvm.Cond.declares ({ cls := "java/util/AbstractList", name := "remove", desc := "(I)Ljava/lang/Object;" } : Jvm.MethodName)) ∈ lw_tbl := lw_at lw_m8 213 rfl

abbrev cJ10_init : ByteArray := prog_46_method_1_code
def yJ10_init : MethodName := ⟨RJ10, "<init>", "()V"⟩
theorem dJ10_init_0 : decode cJ10_init 0 = .ok (.aload_n 0, 1) := by decide +kernel
theorem dJ10_init_1 : decode cJ10_init 1 = .ok (.invokespecial 1, 3) := by decide +kernel
theorem dJ10_init_4 : decode cJ10_init 4 = .ok (.return_, 1) := by decide +kernel
abbrev cJ10_iterator : ByteArray := prog_46_method_7_code
def yJ10_iterator : MethodName := ⟨RJ10, "iterator", "()Ljava/util/Iterator;"⟩
theorem dJ10_iterator_0 : decode cJ10_iterator 0 = .ok (.aload_n 0, 1) := by decide +kernel
theorem dJ10_iterator_1 : decode cJ10_iterator 1 = .ok (.invokevirtual 65, 3) := by decide +kernel
theorem dJ10_iterator_4 : decode cJ10_iterator 4 = .ok (.areturn, 1) := by decide +kernel
theorem q138 : (Jvm.Cond.initialized "java/util/AbstractSequentialList") ∈ lw_all := lw_g (lw_at lw_m1 16 rfl) rfl
theorem q361 : (Jvm.Cond.instanceMethod ({ cls := "java/util/AbstractSequentialList", name := "<init>", desc := "()V" } : Jvm.MethodName)) ∈ lw_all := lw_g (lw_at lw_m1 239 rfl) rfl
theorem q362 : (Jvm.Cond.code ({ cls := "java/util/AbstractSequentialList", name := "<init>", desc := "()V" } : Jvm.MethodName) prog_46_method_1_code (1 : Nat) (Option.none : Option Jvm.ClassFile.FieldType)) ∈ lw_all := lw_g (lw_at lw_m2 0 rfl) rfl
theorem q363 : (Jvm.Cond.methodLink "java/util/AbstractSequentialList" (1 : Nat) ({ cls := "java/util/AbstractList", name := "<init>", desc := "()V" } : Jvm.MethodName)) ∈ lw_all := lw_g (lw_at lw_m2 1 rfl) rfl
theorem q924 : (Jvm.Cond.declares ({ cls := "java/util/AbstractSequentialList", name := "iterator", desc := "()Ljava/util/Iterator;" } : Jvm.MethodName)) ∈ lw_tbl := lw_at lw_m4 82 rfl
theorem q926 : (Jvm.Cond.instanceMethod ({ cls := "java/util/AbstractSequentialList", name := "iterator", desc := "()Ljava/util/Iterator;" } : Jvm.MethodName)) ∈ lw_all := lw_g (lw_at lw_m4 84 rfl) rfl
theorem q927 : (Jvm.Cond.code ({ cls := "java/util/AbstractSequentialList", name := "iterator", desc := "()Ljava/util/Iterator;" } : Jvm.MethodName) prog_46_method_7_code (1 : Nat) (Option.some (Jvm.ClassFile.FieldType.object "java/util/Iterator"))) ∈ lw_all := lw_g (lw_at lw_m4 85 rfl) rfl
theorem q928 : (Jvm.Cond.methodLink "java/util/AbstractSequentialList" (65 : Nat) ({ cls := "java/util/AbstractSequentialList", name := "listIterator", desc := "()Ljava/util/ListIterator;" } : Jvm.MethodName)) ∈ lw_all := lw_g (lw_at lw_m4 86 rfl) rfl
theorem q929 : (Jvm.Cond.sameMethod "java/util/AbstractSequentialList" "java/util/AbstractList" "listIterator" "()Ljava/util/ListIterator;") ∈ lw_all := lw_g (lw_at lw_m4 87 rfl) rfl

abbrev cJ11_init : ByteArray := prog_62_method_1_code
def yJ11_init : MethodName := ⟨RJ11, "<init>", "()V"⟩
def dkwJ11_init_0 : List UInt8 := [42, 183, 0, 1, 42, 3, 181, 0, 7, 177]
abbrev dktJ11_init_0 : List UInt8 := dkwJ11_init_0 ++ []
theorem dksJ11_init_0 : cJ11_init.data.toList.drop 0 = dktJ11_init_0 := by decide +kernel
theorem dJ11_init_0 : decode cJ11_init 0 = .ok (.aload_n 0, 1) := dk_42 (dk_at dksJ11_init_0 0 rfl rfl)
theorem dJ11_init_1 : decode cJ11_init 1 = .ok (.invokespecial 1, 3) := dk_183 0 1 (dk_at dksJ11_init_0 1 rfl rfl)
theorem dJ11_init_4 : decode cJ11_init 4 = .ok (.aload_n 0, 1) := dk_42 (dk_at dksJ11_init_0 4 rfl rfl)
theorem dJ11_init_5 : decode cJ11_init 5 = .ok (.iconst 0, 1) := dk_3 (dk_at dksJ11_init_0 5 rfl rfl)
theorem dJ11_init_6 : decode cJ11_init 6 = .ok (.putfield 7, 3) := dk_181 0 7 (dk_at dksJ11_init_0 6 rfl rfl)
theorem dJ11_init_9 : decode cJ11_init 9 = .ok (.return_, 1) := dk_177 (dk_at dksJ11_init_0 9 rfl rfl)
abbrev cJ11_size : ByteArray := prog_62_method_16_code
def yJ11_size : MethodName := ⟨RJ11, "size", "()I"⟩
theorem dJ11_size_0 : decode cJ11_size 0 = .ok (.aload_n 0, 1) := by decide +kernel
theorem dJ11_size_1 : decode cJ11_size 1 = .ok (.getfield 7, 3) := by decide +kernel
theorem dJ11_size_4 : decode cJ11_size 4 = .ok (.ireturn, 1) := by decide +kernel
abbrev cJ11_get : ByteArray := prog_62_method_22_code
def yJ11_get : MethodName := ⟨RJ11, "get", "(I)Ljava/lang/Object;"⟩
def dkwJ11_get_0 : List UInt8 := [42, 27, 182, 0, 90, 42, 27, 182, 0, 86, 180, 0, 39, 176]
abbrev dktJ11_get_0 : List UInt8 := dkwJ11_get_0 ++ []
theorem dksJ11_get_0 : cJ11_get.data.toList.drop 0 = dktJ11_get_0 := by decide +kernel
theorem dJ11_get_0 : decode cJ11_get 0 = .ok (.aload_n 0, 1) := dk_42 (dk_at dksJ11_get_0 0 rfl rfl)
theorem dJ11_get_1 : decode cJ11_get 1 = .ok (.iload_n 1, 1) := dk_27 (dk_at dksJ11_get_0 1 rfl rfl)
theorem dJ11_get_2 : decode cJ11_get 2 = .ok (.invokevirtual 90, 3) := dk_182 0 90 (dk_at dksJ11_get_0 2 rfl rfl)
theorem dJ11_get_5 : decode cJ11_get 5 = .ok (.aload_n 0, 1) := dk_42 (dk_at dksJ11_get_0 5 rfl rfl)
theorem dJ11_get_6 : decode cJ11_get 6 = .ok (.iload_n 1, 1) := dk_27 (dk_at dksJ11_get_0 6 rfl rfl)
theorem dJ11_get_7 : decode cJ11_get 7 = .ok (.invokevirtual 86, 3) := dk_182 0 86 (dk_at dksJ11_get_0 7 rfl rfl)
theorem dJ11_get_10 : decode cJ11_get 10 = .ok (.getfield 39, 3) := dk_180 0 39 (dk_at dksJ11_get_0 10 rfl rfl)
theorem dJ11_get_13 : decode cJ11_get 13 = .ok (.areturn, 1) := dk_176 (dk_at dksJ11_get_0 13 rfl rfl)
abbrev cJ11_checkElementIndex : ByteArray := prog_62_method_29_code
def yJ11_checkElementIndex : MethodName := ⟨RJ11, "checkElementIndex", "(I)V"⟩
def dkwJ11_checkElementIndex_0 : List UInt8 := [42, 27, 182, 0, 115, 154, 0, 16, 187, 0, 119, 89, 42, 27, 182, 0, 121, 183, 0, 125, 191, 177]
abbrev dktJ11_checkElementIndex_0 : List UInt8 := dkwJ11_checkElementIndex_0 ++ []
theorem dksJ11_checkElementIndex_0 : cJ11_checkElementIndex.data.toList.drop 0 = dktJ11_checkElementIndex_0 := by decide +kernel
theorem dJ11_checkElementIndex_0 : decode cJ11_checkElementIndex 0 = .ok (.aload_n 0, 1) := dk_42 (dk_at dksJ11_checkElementIndex_0 0 rfl rfl)
theorem dJ11_checkElementIndex_1 : decode cJ11_checkElementIndex 1 = .ok (.iload_n 1, 1) := dk_27 (dk_at dksJ11_checkElementIndex_0 1 rfl rfl)
theorem dJ11_checkElementIndex_2 : decode cJ11_checkElementIndex 2 = .ok (.invokevirtual 115, 3) := dk_182 0 115 (dk_at dksJ11_checkElementIndex_0 2 rfl rfl)
theorem dJ11_checkElementIndex_5 : decode cJ11_checkElementIndex 5 = .ok (.ifCond .ne 16, 3) := dk_154 0 16 (dk_at dksJ11_checkElementIndex_0 5 rfl rfl)
theorem dJ11_checkElementIndex_8 : decode cJ11_checkElementIndex 8 = .ok (.new 119, 3) := dk_187 0 119 (dk_at dksJ11_checkElementIndex_0 8 rfl rfl)
theorem dJ11_checkElementIndex_11 : decode cJ11_checkElementIndex 11 = .ok (.dup, 1) := dk_89 (dk_at dksJ11_checkElementIndex_0 11 rfl rfl)
theorem dJ11_checkElementIndex_12 : decode cJ11_checkElementIndex 12 = .ok (.aload_n 0, 1) := dk_42 (dk_at dksJ11_checkElementIndex_0 12 rfl rfl)
theorem dJ11_checkElementIndex_13 : decode cJ11_checkElementIndex 13 = .ok (.iload_n 1, 1) := dk_27 (dk_at dksJ11_checkElementIndex_0 13 rfl rfl)
theorem dJ11_checkElementIndex_14 : decode cJ11_checkElementIndex 14 = .ok (.invokevirtual 121, 3) := dk_182 0 121 (dk_at dksJ11_checkElementIndex_0 14 rfl rfl)
theorem dJ11_checkElementIndex_17 : decode cJ11_checkElementIndex 17 = .ok (.invokespecial 125, 3) := dk_183 0 125 (dk_at dksJ11_checkElementIndex_0 17 rfl rfl)
theorem dJ11_checkElementIndex_20 : decode cJ11_checkElementIndex 20 = .ok (.athrow, 1) := dk_191 (dk_at dksJ11_checkElementIndex_0 20 rfl rfl)
theorem dJ11_checkElementIndex_21 : decode cJ11_checkElementIndex 21 = .ok (.return_, 1) := dk_177 (dk_at dksJ11_checkElementIndex_0 21 rfl rfl)
abbrev cJ11_isElementIndex : ByteArray := prog_62_method_26_code
def yJ11_isElementIndex : MethodName := ⟨RJ11, "isElementIndex", "(I)Z"⟩
def dkwJ11_isElementIndex_0 : List UInt8 := [27, 155, 0, 15, 27, 42, 180, 0, 7, 162, 0, 7, 4, 167, 0, 4, 3, 172]
abbrev dktJ11_isElementIndex_0 : List UInt8 := dkwJ11_isElementIndex_0 ++ []
theorem dksJ11_isElementIndex_0 : cJ11_isElementIndex.data.toList.drop 0 = dktJ11_isElementIndex_0 := by decide +kernel
theorem dJ11_isElementIndex_0 : decode cJ11_isElementIndex 0 = .ok (.iload_n 1, 1) := dk_27 (dk_at dksJ11_isElementIndex_0 0 rfl rfl)
theorem dJ11_isElementIndex_1 : decode cJ11_isElementIndex 1 = .ok (.ifCond .lt 15, 3) := dk_155 0 15 (dk_at dksJ11_isElementIndex_0 1 rfl rfl)
theorem dJ11_isElementIndex_4 : decode cJ11_isElementIndex 4 = .ok (.iload_n 1, 1) := dk_27 (dk_at dksJ11_isElementIndex_0 4 rfl rfl)
theorem dJ11_isElementIndex_5 : decode cJ11_isElementIndex 5 = .ok (.aload_n 0, 1) := dk_42 (dk_at dksJ11_isElementIndex_0 5 rfl rfl)
theorem dJ11_isElementIndex_6 : decode cJ11_isElementIndex 6 = .ok (.getfield 7, 3) := dk_180 0 7 (dk_at dksJ11_isElementIndex_0 6 rfl rfl)
theorem dJ11_isElementIndex_9 : decode cJ11_isElementIndex 9 = .ok (.if_icmp .ge 7, 3) := dk_162 0 7 (dk_at dksJ11_isElementIndex_0 9 rfl rfl)
theorem dJ11_isElementIndex_12 : decode cJ11_isElementIndex 12 = .ok (.iconst 1, 1) := dk_4 (dk_at dksJ11_isElementIndex_0 12 rfl rfl)
theorem dJ11_isElementIndex_13 : decode cJ11_isElementIndex 13 = .ok (.goto 4, 3) := dk_167 0 4 (dk_at dksJ11_isElementIndex_0 13 rfl rfl)
theorem dJ11_isElementIndex_16 : decode cJ11_isElementIndex 16 = .ok (.iconst 0, 1) := dk_3 (dk_at dksJ11_isElementIndex_0 16 rfl rfl)
theorem dJ11_isElementIndex_17 : decode cJ11_isElementIndex 17 = .ok (.ireturn, 1) := dk_172 (dk_at dksJ11_isElementIndex_0 17 rfl rfl)
abbrev cJ11_outOfBoundsMsg : ByteArray := prog_62_method_28_code
def yJ11_outOfBoundsMsg : MethodName := ⟨RJ11, "outOfBoundsMsg", "(I)Ljava/lang/String;"⟩
def dkwJ11_outOfBoundsMsg_1 : List UInt8 := [180, 0, 7, 182, 0, 106, 182, 0, 111, 176]
abbrev dktJ11_outOfBoundsMsg_1 : List UInt8 := dkwJ11_outOfBoundsMsg_1 ++ []
def dkwJ11_outOfBoundsMsg_0 : List UInt8 := [187, 0, 97, 89, 183, 0, 99, 18, 100, 182, 0, 102, 27, 182, 0, 106, 18, 109, 182, 0, 102, 42]
abbrev dktJ11_outOfBoundsMsg_0 : List UInt8 := dkwJ11_outOfBoundsMsg_0 ++ dktJ11_outOfBoundsMsg_1
theorem dksJ11_outOfBoundsMsg_0 : cJ11_outOfBoundsMsg.data.toList.drop 0 = dktJ11_outOfBoundsMsg_0 := by decide +kernel
theorem dksJ11_outOfBoundsMsg_1 : cJ11_outOfBoundsMsg.data.toList.drop 22 = dktJ11_outOfBoundsMsg_1 := dk_seg dksJ11_outOfBoundsMsg_0 22 rfl rfl
theorem dJ11_outOfBoundsMsg_0 : decode cJ11_outOfBoundsMsg 0 = .ok (.new 97, 3) := dk_187 0 97 (dk_at dksJ11_outOfBoundsMsg_0 0 rfl rfl)
theorem dJ11_outOfBoundsMsg_3 : decode cJ11_outOfBoundsMsg 3 = .ok (.dup, 1) := dk_89 (dk_at dksJ11_outOfBoundsMsg_0 3 rfl rfl)
theorem dJ11_outOfBoundsMsg_4 : decode cJ11_outOfBoundsMsg 4 = .ok (.invokespecial 99, 3) := dk_183 0 99 (dk_at dksJ11_outOfBoundsMsg_0 4 rfl rfl)
theorem dJ11_outOfBoundsMsg_7 : decode cJ11_outOfBoundsMsg 7 = .ok (.ldc 100, 2) := dk_18 100 (dk_at dksJ11_outOfBoundsMsg_0 7 rfl rfl)
theorem dJ11_outOfBoundsMsg_9 : decode cJ11_outOfBoundsMsg 9 = .ok (.invokevirtual 102, 3) := dk_182 0 102 (dk_at dksJ11_outOfBoundsMsg_0 9 rfl rfl)
theorem dJ11_outOfBoundsMsg_12 : decode cJ11_outOfBoundsMsg 12 = .ok (.iload_n 1, 1) := dk_27 (dk_at dksJ11_outOfBoundsMsg_0 12 rfl rfl)
theorem dJ11_outOfBoundsMsg_13 : decode cJ11_outOfBoundsMsg 13 = .ok (.invokevirtual 106, 3) := dk_182 0 106 (dk_at dksJ11_outOfBoundsMsg_0 13 rfl rfl)
theorem dJ11_outOfBoundsMsg_16 : decode cJ11_outOfBoundsMsg 16 = .ok (.ldc 109, 2) := dk_18 109 (dk_at dksJ11_outOfBoundsMsg_0 16 rfl rfl)
theorem dJ11_outOfBoundsMsg_18 : decode cJ11_outOfBoundsMsg 18 = .ok (.invokevirtual 102, 3) := dk_182 0 102 (dk_at dksJ11_outOfBoundsMsg_0 18 rfl rfl)
theorem dJ11_outOfBoundsMsg_21 : decode cJ11_outOfBoundsMsg 21 = .ok (.aload_n 0, 1) := dk_42 (dk_at dksJ11_outOfBoundsMsg_0 21 rfl rfl)
theorem dJ11_outOfBoundsMsg_22 : decode cJ11_outOfBoundsMsg 22 = .ok (.getfield 7, 3) := dk_180 0 7 (dk_at dksJ11_outOfBoundsMsg_1 0 rfl rfl)
theorem dJ11_outOfBoundsMsg_25 : decode cJ11_outOfBoundsMsg 25 = .ok (.invokevirtual 106, 3) := dk_182 0 106 (dk_at dksJ11_outOfBoundsMsg_1 3 rfl rfl)
theorem dJ11_outOfBoundsMsg_28 : decode cJ11_outOfBoundsMsg 28 = .ok (.invokevirtual 111, 3) := dk_182 0 111 (dk_at dksJ11_outOfBoundsMsg_1 6 rfl rfl)
theorem dJ11_outOfBoundsMsg_31 : decode cJ11_outOfBoundsMsg 31 = .ok (.areturn, 1) := dk_176 (dk_at dksJ11_outOfBoundsMsg_1 9 rfl rfl)
abbrev cJ11_node : ByteArray := prog_62_method_31_code
def yJ11_node : MethodName := ⟨RJ11, "node", "(I)Ljava/util/LinkedList$Node;"⟩
def dkwJ11_node_2 : List UInt8 := [29, 27, 164, 0, 14, 44, 180, 0, 30, 77, 132, 3, 255, 167, 255, 243, 44, 176]
abbrev dktJ11_node_2 : List UInt8 := dkwJ11_node_2 ++ []
def dkwJ11_node_1 : List UInt8 := [180, 0, 36, 77, 132, 3, 1, 167, 255, 243, 44, 176, 42, 180, 0, 27, 77, 42, 180, 0, 7, 4, 100, 62]
abbrev dktJ11_node_1 : List UInt8 := dkwJ11_node_1 ++ dktJ11_node_2
def dkwJ11_node_0 : List UInt8 := [27, 42, 180, 0, 7, 4, 122, 162, 0, 28, 42, 180, 0, 18, 77, 3, 62, 29, 27, 162, 0, 14, 44]
abbrev dktJ11_node_0 : List UInt8 := dkwJ11_node_0 ++ dktJ11_node_1
theorem dksJ11_node_0 : cJ11_node.data.toList.drop 0 = dktJ11_node_0 := by decide +kernel
theorem dksJ11_node_1 : cJ11_node.data.toList.drop 23 = dktJ11_node_1 := dk_seg dksJ11_node_0 23 rfl rfl
theorem dksJ11_node_2 : cJ11_node.data.toList.drop 47 = dktJ11_node_2 := dk_seg dksJ11_node_1 24 rfl rfl
theorem dJ11_node_0 : decode cJ11_node 0 = .ok (.iload_n 1, 1) := dk_27 (dk_at dksJ11_node_0 0 rfl rfl)
theorem dJ11_node_1 : decode cJ11_node 1 = .ok (.aload_n 0, 1) := dk_42 (dk_at dksJ11_node_0 1 rfl rfl)
theorem dJ11_node_2 : decode cJ11_node 2 = .ok (.getfield 7, 3) := dk_180 0 7 (dk_at dksJ11_node_0 2 rfl rfl)
theorem dJ11_node_5 : decode cJ11_node 5 = .ok (.iconst 1, 1) := dk_4 (dk_at dksJ11_node_0 5 rfl rfl)
theorem dJ11_node_6 : decode cJ11_node 6 = .ok (.ishr, 1) := dk_122 (dk_at dksJ11_node_0 6 rfl rfl)
theorem dJ11_node_7 : decode cJ11_node 7 = .ok (.if_icmp .ge 28, 3) := dk_162 0 28 (dk_at dksJ11_node_0 7 rfl rfl)
theorem dJ11_node_10 : decode cJ11_node 10 = .ok (.aload_n 0, 1) := dk_42 (dk_at dksJ11_node_0 10 rfl rfl)
theorem dJ11_node_11 : decode cJ11_node 11 = .ok (.getfield 18, 3) := dk_180 0 18 (dk_at dksJ11_node_0 11 rfl rfl)
theorem dJ11_node_14 : decode cJ11_node 14 = .ok (.astore_n 2, 1) := dk_77 (dk_at dksJ11_node_0 14 rfl rfl)
theorem dJ11_node_15 : decode cJ11_node 15 = .ok (.iconst 0, 1) := dk_3 (dk_at dksJ11_node_0 15 rfl rfl)
theorem dJ11_node_16 : decode cJ11_node 16 = .ok (.istore_n 3, 1) := dk_62 (dk_at dksJ11_node_0 16 rfl rfl)
theorem dJ11_node_17 : decode cJ11_node 17 = .ok (.iload_n 3, 1) := dk_29 (dk_at dksJ11_node_0 17 rfl rfl)
theorem dJ11_node_18 : decode cJ11_node 18 = .ok (.iload_n 1, 1) := dk_27 (dk_at dksJ11_node_0 18 rfl rfl)
theorem dJ11_node_19 : decode cJ11_node 19 = .ok (.if_icmp .ge 14, 3) := dk_162 0 14 (dk_at dksJ11_node_0 19 rfl rfl)
theorem dJ11_node_22 : decode cJ11_node 22 = .ok (.aload_n 2, 1) := dk_44 (dk_at dksJ11_node_0 22 rfl rfl)
theorem dJ11_node_23 : decode cJ11_node 23 = .ok (.getfield 36, 3) := dk_180 0 36 (dk_at dksJ11_node_1 0 rfl rfl)
theorem dJ11_node_26 : decode cJ11_node 26 = .ok (.astore_n 2, 1) := dk_77 (dk_at dksJ11_node_1 3 rfl rfl)
theorem dJ11_node_27 : decode cJ11_node 27 = .ok (.iinc 3 1, 3) := dk_132 3 1 (dk_at dksJ11_node_1 4 rfl rfl)
theorem dJ11_node_30 : decode cJ11_node 30 = .ok (.goto (-13), 3) := dk_167 255 243 (dk_at dksJ11_node_1 7 rfl rfl)
theorem dJ11_node_33 : decode cJ11_node 33 = .ok (.aload_n 2, 1) := dk_44 (dk_at dksJ11_node_1 10 rfl rfl)
theorem dJ11_node_34 : decode cJ11_node 34 = .ok (.areturn, 1) := dk_176 (dk_at dksJ11_node_1 11 rfl rfl)
theorem dJ11_node_35 : decode cJ11_node 35 = .ok (.aload_n 0, 1) := dk_42 (dk_at dksJ11_node_1 12 rfl rfl)
theorem dJ11_node_36 : decode cJ11_node 36 = .ok (.getfield 27, 3) := dk_180 0 27 (dk_at dksJ11_node_1 13 rfl rfl)
theorem dJ11_node_39 : decode cJ11_node 39 = .ok (.astore_n 2, 1) := dk_77 (dk_at dksJ11_node_1 16 rfl rfl)
theorem dJ11_node_40 : decode cJ11_node 40 = .ok (.aload_n 0, 1) := dk_42 (dk_at dksJ11_node_1 17 rfl rfl)
theorem dJ11_node_41 : decode cJ11_node 41 = .ok (.getfield 7, 3) := dk_180 0 7 (dk_at dksJ11_node_1 18 rfl rfl)
theorem dJ11_node_44 : decode cJ11_node 44 = .ok (.iconst 1, 1) := dk_4 (dk_at dksJ11_node_1 21 rfl rfl)
theorem dJ11_node_45 : decode cJ11_node 45 = .ok (.isub, 1) := dk_100 (dk_at dksJ11_node_1 22 rfl rfl)
theorem dJ11_node_46 : decode cJ11_node 46 = .ok (.istore_n 3, 1) := dk_62 (dk_at dksJ11_node_1 23 rfl rfl)
theorem dJ11_node_47 : decode cJ11_node 47 = .ok (.iload_n 3, 1) := dk_29 (dk_at dksJ11_node_2 0 rfl rfl)
theorem dJ11_node_48 : decode cJ11_node 48 = .ok (.iload_n 1, 1) := dk_27 (dk_at dksJ11_node_2 1 rfl rfl)
theorem dJ11_node_49 : decode cJ11_node 49 = .ok (.if_icmp .le 14, 3) := dk_164 0 14 (dk_at dksJ11_node_2 2 rfl rfl)
theorem dJ11_node_52 : decode cJ11_node 52 = .ok (.aload_n 2, 1) := dk_44 (dk_at dksJ11_node_2 5 rfl rfl)
theorem dJ11_node_53 : decode cJ11_node 53 = .ok (.getfield 30, 3) := dk_180 0 30 (dk_at dksJ11_node_2 6 rfl rfl)
theorem dJ11_node_56 : decode cJ11_node 56 = .ok (.astore_n 2, 1) := dk_77 (dk_at dksJ11_node_2 9 rfl rfl)
theorem dJ11_node_57 : decode cJ11_node 57 = .ok (.iinc 3 (-1), 3) := dk_132 3 255 (dk_at dksJ11_node_2 10 rfl rfl)
theorem dJ11_node_60 : decode cJ11_node 60 = .ok (.goto (-13), 3) := dk_167 255 243 (dk_at dksJ11_node_2 13 rfl rfl)
theorem dJ11_node_63 : decode cJ11_node 63 = .ok (.aload_n 2, 1) := dk_44 (dk_at dksJ11_node_2 16 rfl rfl)
theorem dJ11_node_64 : decode cJ11_node 64 = .ok (.areturn, 1) := dk_176 (dk_at dksJ11_node_2 17 rfl rfl)
abbrev cJ11_listIterator : ByteArray := prog_62_method_49_code
def yJ11_listIterator : MethodName := ⟨RJ11, "listIterator", "(I)Ljava/util/ListIterator;"⟩
def dkwJ11_listIterator_0 : List UInt8 := [42, 27, 182, 0, 76, 187, 0, 150, 89, 42, 27, 183, 0, 152, 176]
abbrev dktJ11_listIterator_0 : List UInt8 := dkwJ11_listIterator_0 ++ []
theorem dksJ11_listIterator_0 : cJ11_listIterator.data.toList.drop 0 = dktJ11_listIterator_0 := by decide +kernel
theorem dJ11_listIterator_0 : decode cJ11_listIterator 0 = .ok (.aload_n 0, 1) := dk_42 (dk_at dksJ11_listIterator_0 0 rfl rfl)
theorem dJ11_listIterator_1 : decode cJ11_listIterator 1 = .ok (.iload_n 1, 1) := dk_27 (dk_at dksJ11_listIterator_0 1 rfl rfl)
theorem dJ11_listIterator_2 : decode cJ11_listIterator 2 = .ok (.invokevirtual 76, 3) := dk_182 0 76 (dk_at dksJ11_listIterator_0 2 rfl rfl)
theorem dJ11_listIterator_5 : decode cJ11_listIterator 5 = .ok (.new 150, 3) := dk_187 0 150 (dk_at dksJ11_listIterator_0 5 rfl rfl)
theorem dJ11_listIterator_8 : decode cJ11_listIterator 8 = .ok (.dup, 1) := dk_89 (dk_at dksJ11_listIterator_0 8 rfl rfl)
theorem dJ11_listIterator_9 : decode cJ11_listIterator 9 = .ok (.aload_n 0, 1) := dk_42 (dk_at dksJ11_listIterator_0 9 rfl rfl)
theorem dJ11_listIterator_10 : decode cJ11_listIterator 10 = .ok (.iload_n 1, 1) := dk_27 (dk_at dksJ11_listIterator_0 10 rfl rfl)
theorem dJ11_listIterator_11 : decode cJ11_listIterator 11 = .ok (.invokespecial 152, 3) := dk_183 0 152 (dk_at dksJ11_listIterator_0 11 rfl rfl)
theorem dJ11_listIterator_14 : decode cJ11_listIterator 14 = .ok (.areturn, 1) := dk_176 (dk_at dksJ11_listIterator_0 14 rfl rfl)
abbrev cJ11_checkPositionIndex : ByteArray := prog_62_method_30_code
def yJ11_checkPositionIndex : MethodName := ⟨RJ11, "checkPositionIndex", "(I)V"⟩
def dkwJ11_checkPositionIndex_0 : List UInt8 := [42, 27, 182, 0, 128, 154, 0, 16, 187, 0, 119, 89, 42, 27, 182, 0, 121, 183, 0, 125, 191, 177]
abbrev dktJ11_checkPositionIndex_0 : List UInt8 := dkwJ11_checkPositionIndex_0 ++ []
theorem dksJ11_checkPositionIndex_0 : cJ11_checkPositionIndex.data.toList.drop 0 = dktJ11_checkPositionIndex_0 := by decide +kernel
theorem dJ11_checkPositionIndex_0 : decode cJ11_checkPositionIndex 0 = .ok (.aload_n 0, 1) := dk_42 (dk_at dksJ11_checkPositionIndex_0 0 rfl rfl)
theorem dJ11_checkPositionIndex_1 : decode cJ11_checkPositionIndex 1 = .ok (.iload_n 1, 1) := dk_27 (dk_at dksJ11_checkPositionIndex_0 1 rfl rfl)
theorem dJ11_checkPositionIndex_2 : decode cJ11_checkPositionIndex 2 = .ok (.invokevirtual 128, 3) := dk_182 0 128 (dk_at dksJ11_checkPositionIndex_0 2 rfl rfl)
theorem dJ11_checkPositionIndex_5 : decode cJ11_checkPositionIndex 5 = .ok (.ifCond .ne 16, 3) := dk_154 0 16 (dk_at dksJ11_checkPositionIndex_0 5 rfl rfl)
theorem dJ11_checkPositionIndex_8 : decode cJ11_checkPositionIndex 8 = .ok (.new 119, 3) := dk_187 0 119 (dk_at dksJ11_checkPositionIndex_0 8 rfl rfl)
theorem dJ11_checkPositionIndex_11 : decode cJ11_checkPositionIndex 11 = .ok (.dup, 1) := dk_89 (dk_at dksJ11_checkPositionIndex_0 11 rfl rfl)
theorem dJ11_checkPositionIndex_12 : decode cJ11_checkPositionIndex 12 = .ok (.aload_n 0, 1) := dk_42 (dk_at dksJ11_checkPositionIndex_0 12 rfl rfl)
theorem dJ11_checkPositionIndex_13 : decode cJ11_checkPositionIndex 13 = .ok (.iload_n 1, 1) := dk_27 (dk_at dksJ11_checkPositionIndex_0 13 rfl rfl)
theorem dJ11_checkPositionIndex_14 : decode cJ11_checkPositionIndex 14 = .ok (.invokevirtual 121, 3) := dk_182 0 121 (dk_at dksJ11_checkPositionIndex_0 14 rfl rfl)
theorem dJ11_checkPositionIndex_17 : decode cJ11_checkPositionIndex 17 = .ok (.invokespecial 125, 3) := dk_183 0 125 (dk_at dksJ11_checkPositionIndex_0 17 rfl rfl)
theorem dJ11_checkPositionIndex_20 : decode cJ11_checkPositionIndex 20 = .ok (.athrow, 1) := dk_191 (dk_at dksJ11_checkPositionIndex_0 20 rfl rfl)
theorem dJ11_checkPositionIndex_21 : decode cJ11_checkPositionIndex 21 = .ok (.return_, 1) := dk_177 (dk_at dksJ11_checkPositionIndex_0 21 rfl rfl)
abbrev cJ11_isPositionIndex : ByteArray := prog_62_method_27_code
def yJ11_isPositionIndex : MethodName := ⟨RJ11, "isPositionIndex", "(I)Z"⟩
def dkwJ11_isPositionIndex_0 : List UInt8 := [27, 155, 0, 15, 27, 42, 180, 0, 7, 163, 0, 7, 4, 167, 0, 4, 3, 172]
abbrev dktJ11_isPositionIndex_0 : List UInt8 := dkwJ11_isPositionIndex_0 ++ []
theorem dksJ11_isPositionIndex_0 : cJ11_isPositionIndex.data.toList.drop 0 = dktJ11_isPositionIndex_0 := by decide +kernel
theorem dJ11_isPositionIndex_0 : decode cJ11_isPositionIndex 0 = .ok (.iload_n 1, 1) := dk_27 (dk_at dksJ11_isPositionIndex_0 0 rfl rfl)
theorem dJ11_isPositionIndex_1 : decode cJ11_isPositionIndex 1 = .ok (.ifCond .lt 15, 3) := dk_155 0 15 (dk_at dksJ11_isPositionIndex_0 1 rfl rfl)
theorem dJ11_isPositionIndex_4 : decode cJ11_isPositionIndex 4 = .ok (.iload_n 1, 1) := dk_27 (dk_at dksJ11_isPositionIndex_0 4 rfl rfl)
theorem dJ11_isPositionIndex_5 : decode cJ11_isPositionIndex 5 = .ok (.aload_n 0, 1) := dk_42 (dk_at dksJ11_isPositionIndex_0 5 rfl rfl)
theorem dJ11_isPositionIndex_6 : decode cJ11_isPositionIndex 6 = .ok (.getfield 7, 3) := dk_180 0 7 (dk_at dksJ11_isPositionIndex_0 6 rfl rfl)
theorem dJ11_isPositionIndex_9 : decode cJ11_isPositionIndex 9 = .ok (.if_icmp .gt 7, 3) := dk_163 0 7 (dk_at dksJ11_isPositionIndex_0 9 rfl rfl)
theorem dJ11_isPositionIndex_12 : decode cJ11_isPositionIndex 12 = .ok (.iconst 1, 1) := dk_4 (dk_at dksJ11_isPositionIndex_0 12 rfl rfl)
theorem dJ11_isPositionIndex_13 : decode cJ11_isPositionIndex 13 = .ok (.goto 4, 3) := dk_167 0 4 (dk_at dksJ11_isPositionIndex_0 13 rfl rfl)
theorem dJ11_isPositionIndex_16 : decode cJ11_isPositionIndex 16 = .ok (.iconst 0, 1) := dk_3 (dk_at dksJ11_isPositionIndex_0 16 rfl rfl)
theorem dJ11_isPositionIndex_17 : decode cJ11_isPositionIndex 17 = .ok (.ireturn, 1) := dk_172 (dk_at dksJ11_isPositionIndex_0 17 rfl rfl)
abbrev cJ11_add : ByteArray := prog_62_method_17_code
def yJ11_add : MethodName := ⟨RJ11, "add", "(Ljava/lang/Object;)Z"⟩
def dkwJ11_add_0 : List UInt8 := [42, 43, 182, 0, 57, 4, 172]
abbrev dktJ11_add_0 : List UInt8 := dkwJ11_add_0 ++ []
theorem dksJ11_add_0 : cJ11_add.data.toList.drop 0 = dktJ11_add_0 := by decide +kernel
theorem dJ11_add_0 : decode cJ11_add 0 = .ok (.aload_n 0, 1) := dk_42 (dk_at dksJ11_add_0 0 rfl rfl)
theorem dJ11_add_1 : decode cJ11_add 1 = .ok (.aload_n 1, 1) := dk_43 (dk_at dksJ11_add_0 1 rfl rfl)
theorem dJ11_add_2 : decode cJ11_add 2 = .ok (.invokevirtual 57, 3) := dk_182 0 57 (dk_at dksJ11_add_0 2 rfl rfl)
theorem dJ11_add_5 : decode cJ11_add 5 = .ok (.iconst 1, 1) := dk_4 (dk_at dksJ11_add_0 5 rfl rfl)
theorem dJ11_add_6 : decode cJ11_add 6 = .ok (.ireturn, 1) := dk_172 (dk_at dksJ11_add_0 6 rfl rfl)
abbrev cJ11_linkLast : ByteArray := prog_62_method_4_code
def yJ11_linkLast : MethodName := ⟨RJ11, "linkLast", "(Ljava/lang/Object;)V"⟩
def dkwJ11_linkLast_2 : List UInt8 := [181, 0, 7, 42, 89, 180, 0, 33, 4, 96, 181, 0, 33, 177]
abbrev dktJ11_linkLast_2 : List UInt8 := dkwJ11_linkLast_2 ++ []
def dkwJ11_linkLast_1 : List UInt8 := [199, 0, 11, 42, 45, 181, 0, 18, 167, 0, 8, 44, 45, 181, 0, 36, 42, 89, 180, 0, 7, 4, 96]
abbrev dktJ11_linkLast_1 : List UInt8 := dkwJ11_linkLast_1 ++ dktJ11_linkLast_2
def dkwJ11_linkLast_0 : List UInt8 := [42, 180, 0, 27, 77, 187, 0, 22, 89, 44, 43, 1, 183, 0, 24, 78, 42, 45, 181, 0, 27, 44]
abbrev dktJ11_linkLast_0 : List UInt8 := dkwJ11_linkLast_0 ++ dktJ11_linkLast_1
theorem dksJ11_linkLast_0 : cJ11_linkLast.data.toList.drop 0 = dktJ11_linkLast_0 := by decide +kernel
theorem dksJ11_linkLast_1 : cJ11_linkLast.data.toList.drop 22 = dktJ11_linkLast_1 := dk_seg dksJ11_linkLast_0 22 rfl rfl
theorem dksJ11_linkLast_2 : cJ11_linkLast.data.toList.drop 45 = dktJ11_linkLast_2 := dk_seg dksJ11_linkLast_1 23 rfl rfl
theorem dJ11_linkLast_0 : decode cJ11_linkLast 0 = .ok (.aload_n 0, 1) := dk_42 (dk_at dksJ11_linkLast_0 0 rfl rfl)
theorem dJ11_linkLast_1 : decode cJ11_linkLast 1 = .ok (.getfield 27, 3) := dk_180 0 27 (dk_at dksJ11_linkLast_0 1 rfl rfl)
theorem dJ11_linkLast_4 : decode cJ11_linkLast 4 = .ok (.astore_n 2, 1) := dk_77 (dk_at dksJ11_linkLast_0 4 rfl rfl)
theorem dJ11_linkLast_5 : decode cJ11_linkLast 5 = .ok (.new 22, 3) := dk_187 0 22 (dk_at dksJ11_linkLast_0 5 rfl rfl)
theorem dJ11_linkLast_8 : decode cJ11_linkLast 8 = .ok (.dup, 1) := dk_89 (dk_at dksJ11_linkLast_0 8 rfl rfl)
theorem dJ11_linkLast_9 : decode cJ11_linkLast 9 = .ok (.aload_n 2, 1) := dk_44 (dk_at dksJ11_linkLast_0 9 rfl rfl)
theorem dJ11_linkLast_10 : decode cJ11_linkLast 10 = .ok (.aload_n 1, 1) := dk_43 (dk_at dksJ11_linkLast_0 10 rfl rfl)
theorem dJ11_linkLast_11 : decode cJ11_linkLast 11 = .ok (.aconst_null, 1) := dk_1 (dk_at dksJ11_linkLast_0 11 rfl rfl)
theorem dJ11_linkLast_12 : decode cJ11_linkLast 12 = .ok (.invokespecial 24, 3) := dk_183 0 24 (dk_at dksJ11_linkLast_0 12 rfl rfl)
theorem dJ11_linkLast_15 : decode cJ11_linkLast 15 = .ok (.astore_n 3, 1) := dk_78 (dk_at dksJ11_linkLast_0 15 rfl rfl)
theorem dJ11_linkLast_16 : decode cJ11_linkLast 16 = .ok (.aload_n 0, 1) := dk_42 (dk_at dksJ11_linkLast_0 16 rfl rfl)
theorem dJ11_linkLast_17 : decode cJ11_linkLast 17 = .ok (.aload_n 3, 1) := dk_45 (dk_at dksJ11_linkLast_0 17 rfl rfl)
theorem dJ11_linkLast_18 : decode cJ11_linkLast 18 = .ok (.putfield 27, 3) := dk_181 0 27 (dk_at dksJ11_linkLast_0 18 rfl rfl)
theorem dJ11_linkLast_21 : decode cJ11_linkLast 21 = .ok (.aload_n 2, 1) := dk_44 (dk_at dksJ11_linkLast_0 21 rfl rfl)
theorem dJ11_linkLast_22 : decode cJ11_linkLast 22 = .ok (.ifnonnull 11, 3) := dk_199 0 11 (dk_at dksJ11_linkLast_1 0 rfl rfl)
theorem dJ11_linkLast_25 : decode cJ11_linkLast 25 = .ok (.aload_n 0, 1) := dk_42 (dk_at dksJ11_linkLast_1 3 rfl rfl)
theorem dJ11_linkLast_26 : decode cJ11_linkLast 26 = .ok (.aload_n 3, 1) := dk_45 (dk_at dksJ11_linkLast_1 4 rfl rfl)
theorem dJ11_linkLast_27 : decode cJ11_linkLast 27 = .ok (.putfield 18, 3) := dk_181 0 18 (dk_at dksJ11_linkLast_1 5 rfl rfl)
theorem dJ11_linkLast_30 : decode cJ11_linkLast 30 = .ok (.goto 8, 3) := dk_167 0 8 (dk_at dksJ11_linkLast_1 8 rfl rfl)
theorem dJ11_linkLast_33 : decode cJ11_linkLast 33 = .ok (.aload_n 2, 1) := dk_44 (dk_at dksJ11_linkLast_1 11 rfl rfl)
theorem dJ11_linkLast_34 : decode cJ11_linkLast 34 = .ok (.aload_n 3, 1) := dk_45 (dk_at dksJ11_linkLast_1 12 rfl rfl)
theorem dJ11_linkLast_35 : decode cJ11_linkLast 35 = .ok (.putfield 36, 3) := dk_181 0 36 (dk_at dksJ11_linkLast_1 13 rfl rfl)
theorem dJ11_linkLast_38 : decode cJ11_linkLast 38 = .ok (.aload_n 0, 1) := dk_42 (dk_at dksJ11_linkLast_1 16 rfl rfl)
theorem dJ11_linkLast_39 : decode cJ11_linkLast 39 = .ok (.dup, 1) := dk_89 (dk_at dksJ11_linkLast_1 17 rfl rfl)
theorem dJ11_linkLast_40 : decode cJ11_linkLast 40 = .ok (.getfield 7, 3) := dk_180 0 7 (dk_at dksJ11_linkLast_1 18 rfl rfl)
theorem dJ11_linkLast_43 : decode cJ11_linkLast 43 = .ok (.iconst 1, 1) := dk_4 (dk_at dksJ11_linkLast_1 21 rfl rfl)
theorem dJ11_linkLast_44 : decode cJ11_linkLast 44 = .ok (.iadd, 1) := dk_96 (dk_at dksJ11_linkLast_1 22 rfl rfl)
theorem dJ11_linkLast_45 : decode cJ11_linkLast 45 = .ok (.putfield 7, 3) := dk_181 0 7 (dk_at dksJ11_linkLast_2 0 rfl rfl)
theorem dJ11_linkLast_48 : decode cJ11_linkLast 48 = .ok (.aload_n 0, 1) := dk_42 (dk_at dksJ11_linkLast_2 3 rfl rfl)
theorem dJ11_linkLast_49 : decode cJ11_linkLast 49 = .ok (.dup, 1) := dk_89 (dk_at dksJ11_linkLast_2 4 rfl rfl)
theorem dJ11_linkLast_50 : decode cJ11_linkLast 50 = .ok (.getfield 33, 3) := dk_180 0 33 (dk_at dksJ11_linkLast_2 5 rfl rfl)
theorem dJ11_linkLast_53 : decode cJ11_linkLast 53 = .ok (.iconst 1, 1) := dk_4 (dk_at dksJ11_linkLast_2 8 rfl rfl)
theorem dJ11_linkLast_54 : decode cJ11_linkLast 54 = .ok (.iadd, 1) := dk_96 (dk_at dksJ11_linkLast_2 9 rfl rfl)
theorem dJ11_linkLast_55 : decode cJ11_linkLast 55 = .ok (.putfield 33, 3) := dk_181 0 33 (dk_at dksJ11_linkLast_2 10 rfl rfl)
theorem dJ11_linkLast_58 : decode cJ11_linkLast 58 = .ok (.return_, 1) := dk_177 (dk_at dksJ11_linkLast_2 13 rfl rfl)
abbrev cJ11_clear : ByteArray := prog_62_method_21_code
def yJ11_clear : MethodName := ⟨RJ11, "clear", "()V"⟩
def dkwJ11_clear_2 : List UInt8 := [181, 0, 7, 42, 89, 180, 0, 33, 4, 96, 181, 0, 33, 177]
abbrev dktJ11_clear_2 : List UInt8 := dkwJ11_clear_2 ++ []
def dkwJ11_clear_1 : List UInt8 := [43, 1, 181, 0, 30, 44, 76, 167, 255, 230, 42, 42, 1, 90, 181, 0, 27, 181, 0, 18, 42, 3]
abbrev dktJ11_clear_1 : List UInt8 := dkwJ11_clear_1 ++ dktJ11_clear_2
def dkwJ11_clear_0 : List UInt8 := [42, 180, 0, 18, 76, 43, 198, 0, 28, 43, 180, 0, 36, 77, 43, 1, 181, 0, 39, 43, 1, 181, 0, 36]
abbrev dktJ11_clear_0 : List UInt8 := dkwJ11_clear_0 ++ dktJ11_clear_1
theorem dksJ11_clear_0 : cJ11_clear.data.toList.drop 0 = dktJ11_clear_0 := by decide +kernel
theorem dksJ11_clear_1 : cJ11_clear.data.toList.drop 24 = dktJ11_clear_1 := dk_seg dksJ11_clear_0 24 rfl rfl
theorem dksJ11_clear_2 : cJ11_clear.data.toList.drop 46 = dktJ11_clear_2 := dk_seg dksJ11_clear_1 22 rfl rfl
theorem dJ11_clear_0 : decode cJ11_clear 0 = .ok (.aload_n 0, 1) := dk_42 (dk_at dksJ11_clear_0 0 rfl rfl)
theorem dJ11_clear_1 : decode cJ11_clear 1 = .ok (.getfield 18, 3) := dk_180 0 18 (dk_at dksJ11_clear_0 1 rfl rfl)
theorem dJ11_clear_4 : decode cJ11_clear 4 = .ok (.astore_n 1, 1) := dk_76 (dk_at dksJ11_clear_0 4 rfl rfl)
theorem dJ11_clear_5 : decode cJ11_clear 5 = .ok (.aload_n 1, 1) := dk_43 (dk_at dksJ11_clear_0 5 rfl rfl)
theorem dJ11_clear_6 : decode cJ11_clear 6 = .ok (.ifnull 28, 3) := dk_198 0 28 (dk_at dksJ11_clear_0 6 rfl rfl)
theorem dJ11_clear_9 : decode cJ11_clear 9 = .ok (.aload_n 1, 1) := dk_43 (dk_at dksJ11_clear_0 9 rfl rfl)
theorem dJ11_clear_10 : decode cJ11_clear 10 = .ok (.getfield 36, 3) := dk_180 0 36 (dk_at dksJ11_clear_0 10 rfl rfl)
theorem dJ11_clear_13 : decode cJ11_clear 13 = .ok (.astore_n 2, 1) := dk_77 (dk_at dksJ11_clear_0 13 rfl rfl)
theorem dJ11_clear_14 : decode cJ11_clear 14 = .ok (.aload_n 1, 1) := dk_43 (dk_at dksJ11_clear_0 14 rfl rfl)
theorem dJ11_clear_15 : decode cJ11_clear 15 = .ok (.aconst_null, 1) := dk_1 (dk_at dksJ11_clear_0 15 rfl rfl)
theorem dJ11_clear_16 : decode cJ11_clear 16 = .ok (.putfield 39, 3) := dk_181 0 39 (dk_at dksJ11_clear_0 16 rfl rfl)
theorem dJ11_clear_19 : decode cJ11_clear 19 = .ok (.aload_n 1, 1) := dk_43 (dk_at dksJ11_clear_0 19 rfl rfl)
theorem dJ11_clear_20 : decode cJ11_clear 20 = .ok (.aconst_null, 1) := dk_1 (dk_at dksJ11_clear_0 20 rfl rfl)
theorem dJ11_clear_21 : decode cJ11_clear 21 = .ok (.putfield 36, 3) := dk_181 0 36 (dk_at dksJ11_clear_0 21 rfl rfl)
theorem dJ11_clear_24 : decode cJ11_clear 24 = .ok (.aload_n 1, 1) := dk_43 (dk_at dksJ11_clear_1 0 rfl rfl)
theorem dJ11_clear_25 : decode cJ11_clear 25 = .ok (.aconst_null, 1) := dk_1 (dk_at dksJ11_clear_1 1 rfl rfl)
theorem dJ11_clear_26 : decode cJ11_clear 26 = .ok (.putfield 30, 3) := dk_181 0 30 (dk_at dksJ11_clear_1 2 rfl rfl)
theorem dJ11_clear_29 : decode cJ11_clear 29 = .ok (.aload_n 2, 1) := dk_44 (dk_at dksJ11_clear_1 5 rfl rfl)
theorem dJ11_clear_30 : decode cJ11_clear 30 = .ok (.astore_n 1, 1) := dk_76 (dk_at dksJ11_clear_1 6 rfl rfl)
theorem dJ11_clear_31 : decode cJ11_clear 31 = .ok (.goto (-26), 3) := dk_167 255 230 (dk_at dksJ11_clear_1 7 rfl rfl)
theorem dJ11_clear_34 : decode cJ11_clear 34 = .ok (.aload_n 0, 1) := dk_42 (dk_at dksJ11_clear_1 10 rfl rfl)
theorem dJ11_clear_35 : decode cJ11_clear 35 = .ok (.aload_n 0, 1) := dk_42 (dk_at dksJ11_clear_1 11 rfl rfl)
theorem dJ11_clear_36 : decode cJ11_clear 36 = .ok (.aconst_null, 1) := dk_1 (dk_at dksJ11_clear_1 12 rfl rfl)
theorem dJ11_clear_37 : decode cJ11_clear 37 = .ok (.dup_x1, 1) := dk_90 (dk_at dksJ11_clear_1 13 rfl rfl)
theorem dJ11_clear_38 : decode cJ11_clear 38 = .ok (.putfield 27, 3) := dk_181 0 27 (dk_at dksJ11_clear_1 14 rfl rfl)
theorem dJ11_clear_41 : decode cJ11_clear 41 = .ok (.putfield 18, 3) := dk_181 0 18 (dk_at dksJ11_clear_1 17 rfl rfl)
theorem dJ11_clear_44 : decode cJ11_clear 44 = .ok (.aload_n 0, 1) := dk_42 (dk_at dksJ11_clear_1 20 rfl rfl)
theorem dJ11_clear_45 : decode cJ11_clear 45 = .ok (.iconst 0, 1) := dk_3 (dk_at dksJ11_clear_1 21 rfl rfl)
theorem dJ11_clear_46 : decode cJ11_clear 46 = .ok (.putfield 7, 3) := dk_181 0 7 (dk_at dksJ11_clear_2 0 rfl rfl)
theorem dJ11_clear_49 : decode cJ11_clear 49 = .ok (.aload_n 0, 1) := dk_42 (dk_at dksJ11_clear_2 3 rfl rfl)
theorem dJ11_clear_50 : decode cJ11_clear 50 = .ok (.dup, 1) := dk_89 (dk_at dksJ11_clear_2 4 rfl rfl)
theorem dJ11_clear_51 : decode cJ11_clear 51 = .ok (.getfield 33, 3) := dk_180 0 33 (dk_at dksJ11_clear_2 5 rfl rfl)
theorem dJ11_clear_54 : decode cJ11_clear 54 = .ok (.iconst 1, 1) := dk_4 (dk_at dksJ11_clear_2 8 rfl rfl)
theorem dJ11_clear_55 : decode cJ11_clear 55 = .ok (.iadd, 1) := dk_96 (dk_at dksJ11_clear_2 9 rfl rfl)
theorem dJ11_clear_56 : decode cJ11_clear 56 = .ok (.putfield 33, 3) := dk_181 0 33 (dk_at dksJ11_clear_2 10 rfl rfl)
theorem dJ11_clear_59 : decode cJ11_clear 59 = .ok (.return_, 1) := dk_177 (dk_at dksJ11_clear_2 13 rfl rfl)
abbrev cJ11_removeFirst : ByteArray := prog_62_method_11_code
def yJ11_removeFirst : MethodName := ⟨RJ11, "removeFirst", "()Ljava/lang/Object;"⟩
def dkwJ11_removeFirst_0 : List UInt8 := [42, 180, 0, 18, 76, 43, 199, 0, 11, 187, 0, 43, 89, 183, 0, 45, 191, 42, 43, 182, 0, 46, 176]
abbrev dktJ11_removeFirst_0 : List UInt8 := dkwJ11_removeFirst_0 ++ []
theorem dksJ11_removeFirst_0 : cJ11_removeFirst.data.toList.drop 0 = dktJ11_removeFirst_0 := by decide +kernel
theorem dJ11_removeFirst_0 : decode cJ11_removeFirst 0 = .ok (.aload_n 0, 1) := dk_42 (dk_at dksJ11_removeFirst_0 0 rfl rfl)
theorem dJ11_removeFirst_1 : decode cJ11_removeFirst 1 = .ok (.getfield 18, 3) := dk_180 0 18 (dk_at dksJ11_removeFirst_0 1 rfl rfl)
theorem dJ11_removeFirst_4 : decode cJ11_removeFirst 4 = .ok (.astore_n 1, 1) := dk_76 (dk_at dksJ11_removeFirst_0 4 rfl rfl)
theorem dJ11_removeFirst_5 : decode cJ11_removeFirst 5 = .ok (.aload_n 1, 1) := dk_43 (dk_at dksJ11_removeFirst_0 5 rfl rfl)
theorem dJ11_removeFirst_6 : decode cJ11_removeFirst 6 = .ok (.ifnonnull 11, 3) := dk_199 0 11 (dk_at dksJ11_removeFirst_0 6 rfl rfl)
theorem dJ11_removeFirst_9 : decode cJ11_removeFirst 9 = .ok (.new 43, 3) := dk_187 0 43 (dk_at dksJ11_removeFirst_0 9 rfl rfl)
theorem dJ11_removeFirst_12 : decode cJ11_removeFirst 12 = .ok (.dup, 1) := dk_89 (dk_at dksJ11_removeFirst_0 12 rfl rfl)
theorem dJ11_removeFirst_13 : decode cJ11_removeFirst 13 = .ok (.invokespecial 45, 3) := dk_183 0 45 (dk_at dksJ11_removeFirst_0 13 rfl rfl)
theorem dJ11_removeFirst_16 : decode cJ11_removeFirst 16 = .ok (.athrow, 1) := dk_191 (dk_at dksJ11_removeFirst_0 16 rfl rfl)
theorem dJ11_removeFirst_17 : decode cJ11_removeFirst 17 = .ok (.aload_n 0, 1) := dk_42 (dk_at dksJ11_removeFirst_0 17 rfl rfl)
theorem dJ11_removeFirst_18 : decode cJ11_removeFirst 18 = .ok (.aload_n 1, 1) := dk_43 (dk_at dksJ11_removeFirst_0 18 rfl rfl)
theorem dJ11_removeFirst_19 : decode cJ11_removeFirst 19 = .ok (.invokevirtual 46, 3) := dk_182 0 46 (dk_at dksJ11_removeFirst_0 19 rfl rfl)
theorem dJ11_removeFirst_22 : decode cJ11_removeFirst 22 = .ok (.areturn, 1) := dk_176 (dk_at dksJ11_removeFirst_0 22 rfl rfl)
abbrev cJ11_unlinkFirst : ByteArray := prog_62_method_6_code
def yJ11_unlinkFirst : MethodName := ⟨RJ11, "unlinkFirst", "(Ljava/util/LinkedList$Node;)Ljava/lang/Object;"⟩
def dkwJ11_unlinkFirst_2 : List UInt8 := [180, 0, 7, 4, 100, 181, 0, 7, 42, 89, 180, 0, 33, 4, 96, 181, 0, 33, 44, 176]
abbrev dktJ11_unlinkFirst_2 : List UInt8 := dkwJ11_unlinkFirst_2 ++ []
def dkwJ11_unlinkFirst_1 : List UInt8 := [181, 0, 18, 45, 199, 0, 11, 42, 1, 181, 0, 27, 167, 0, 8, 45, 1, 181, 0, 30, 42, 89]
abbrev dktJ11_unlinkFirst_1 : List UInt8 := dkwJ11_unlinkFirst_1 ++ dktJ11_unlinkFirst_2
def dkwJ11_unlinkFirst_0 : List UInt8 := [43, 180, 0, 39, 77, 43, 180, 0, 36, 78, 43, 1, 181, 0, 39, 43, 1, 181, 0, 36, 42, 45]
abbrev dktJ11_unlinkFirst_0 : List UInt8 := dkwJ11_unlinkFirst_0 ++ dktJ11_unlinkFirst_1
theorem dksJ11_unlinkFirst_0 : cJ11_unlinkFirst.data.toList.drop 0 = dktJ11_unlinkFirst_0 := by decide +kernel
theorem dksJ11_unlinkFirst_1 : cJ11_unlinkFirst.data.toList.drop 22 = dktJ11_unlinkFirst_1 := dk_seg dksJ11_unlinkFirst_0 22 rfl rfl
theorem dksJ11_unlinkFirst_2 : cJ11_unlinkFirst.data.toList.drop 44 = dktJ11_unlinkFirst_2 := dk_seg dksJ11_unlinkFirst_1 22 rfl rfl
theorem dJ11_unlinkFirst_0 : decode cJ11_unlinkFirst 0 = .ok (.aload_n 1, 1) := dk_43 (dk_at dksJ11_unlinkFirst_0 0 rfl rfl)
theorem dJ11_unlinkFirst_1 : decode cJ11_unlinkFirst 1 = .ok (.getfield 39, 3) := dk_180 0 39 (dk_at dksJ11_unlinkFirst_0 1 rfl rfl)
theorem dJ11_unlinkFirst_4 : decode cJ11_unlinkFirst 4 = .ok (.astore_n 2, 1) := dk_77 (dk_at dksJ11_unlinkFirst_0 4 rfl rfl)
theorem dJ11_unlinkFirst_5 : decode cJ11_unlinkFirst 5 = .ok (.aload_n 1, 1) := dk_43 (dk_at dksJ11_unlinkFirst_0 5 rfl rfl)
theorem dJ11_unlinkFirst_6 : decode cJ11_unlinkFirst 6 = .ok (.getfield 36, 3) := dk_180 0 36 (dk_at dksJ11_unlinkFirst_0 6 rfl rfl)
theorem dJ11_unlinkFirst_9 : decode cJ11_unlinkFirst 9 = .ok (.astore_n 3, 1) := dk_78 (dk_at dksJ11_unlinkFirst_0 9 rfl rfl)
theorem dJ11_unlinkFirst_10 : decode cJ11_unlinkFirst 10 = .ok (.aload_n 1, 1) := dk_43 (dk_at dksJ11_unlinkFirst_0 10 rfl rfl)
theorem dJ11_unlinkFirst_11 : decode cJ11_unlinkFirst 11 = .ok (.aconst_null, 1) := dk_1 (dk_at dksJ11_unlinkFirst_0 11 rfl rfl)
theorem dJ11_unlinkFirst_12 : decode cJ11_unlinkFirst 12 = .ok (.putfield 39, 3) := dk_181 0 39 (dk_at dksJ11_unlinkFirst_0 12 rfl rfl)
theorem dJ11_unlinkFirst_15 : decode cJ11_unlinkFirst 15 = .ok (.aload_n 1, 1) := dk_43 (dk_at dksJ11_unlinkFirst_0 15 rfl rfl)
theorem dJ11_unlinkFirst_16 : decode cJ11_unlinkFirst 16 = .ok (.aconst_null, 1) := dk_1 (dk_at dksJ11_unlinkFirst_0 16 rfl rfl)
theorem dJ11_unlinkFirst_17 : decode cJ11_unlinkFirst 17 = .ok (.putfield 36, 3) := dk_181 0 36 (dk_at dksJ11_unlinkFirst_0 17 rfl rfl)
theorem dJ11_unlinkFirst_20 : decode cJ11_unlinkFirst 20 = .ok (.aload_n 0, 1) := dk_42 (dk_at dksJ11_unlinkFirst_0 20 rfl rfl)
theorem dJ11_unlinkFirst_21 : decode cJ11_unlinkFirst 21 = .ok (.aload_n 3, 1) := dk_45 (dk_at dksJ11_unlinkFirst_0 21 rfl rfl)
theorem dJ11_unlinkFirst_22 : decode cJ11_unlinkFirst 22 = .ok (.putfield 18, 3) := dk_181 0 18 (dk_at dksJ11_unlinkFirst_1 0 rfl rfl)
theorem dJ11_unlinkFirst_25 : decode cJ11_unlinkFirst 25 = .ok (.aload_n 3, 1) := dk_45 (dk_at dksJ11_unlinkFirst_1 3 rfl rfl)
theorem dJ11_unlinkFirst_26 : decode cJ11_unlinkFirst 26 = .ok (.ifnonnull 11, 3) := dk_199 0 11 (dk_at dksJ11_unlinkFirst_1 4 rfl rfl)
theorem dJ11_unlinkFirst_29 : decode cJ11_unlinkFirst 29 = .ok (.aload_n 0, 1) := dk_42 (dk_at dksJ11_unlinkFirst_1 7 rfl rfl)
theorem dJ11_unlinkFirst_30 : decode cJ11_unlinkFirst 30 = .ok (.aconst_null, 1) := dk_1 (dk_at dksJ11_unlinkFirst_1 8 rfl rfl)
theorem dJ11_unlinkFirst_31 : decode cJ11_unlinkFirst 31 = .ok (.putfield 27, 3) := dk_181 0 27 (dk_at dksJ11_unlinkFirst_1 9 rfl rfl)
theorem dJ11_unlinkFirst_34 : decode cJ11_unlinkFirst 34 = .ok (.goto 8, 3) := dk_167 0 8 (dk_at dksJ11_unlinkFirst_1 12 rfl rfl)
theorem dJ11_unlinkFirst_37 : decode cJ11_unlinkFirst 37 = .ok (.aload_n 3, 1) := dk_45 (dk_at dksJ11_unlinkFirst_1 15 rfl rfl)
theorem dJ11_unlinkFirst_38 : decode cJ11_unlinkFirst 38 = .ok (.aconst_null, 1) := dk_1 (dk_at dksJ11_unlinkFirst_1 16 rfl rfl)
theorem dJ11_unlinkFirst_39 : decode cJ11_unlinkFirst 39 = .ok (.putfield 30, 3) := dk_181 0 30 (dk_at dksJ11_unlinkFirst_1 17 rfl rfl)
theorem dJ11_unlinkFirst_42 : decode cJ11_unlinkFirst 42 = .ok (.aload_n 0, 1) := dk_42 (dk_at dksJ11_unlinkFirst_1 20 rfl rfl)
theorem dJ11_unlinkFirst_43 : decode cJ11_unlinkFirst 43 = .ok (.dup, 1) := dk_89 (dk_at dksJ11_unlinkFirst_1 21 rfl rfl)
theorem dJ11_unlinkFirst_44 : decode cJ11_unlinkFirst 44 = .ok (.getfield 7, 3) := dk_180 0 7 (dk_at dksJ11_unlinkFirst_2 0 rfl rfl)
theorem dJ11_unlinkFirst_47 : decode cJ11_unlinkFirst 47 = .ok (.iconst 1, 1) := dk_4 (dk_at dksJ11_unlinkFirst_2 3 rfl rfl)
theorem dJ11_unlinkFirst_48 : decode cJ11_unlinkFirst 48 = .ok (.isub, 1) := dk_100 (dk_at dksJ11_unlinkFirst_2 4 rfl rfl)
theorem dJ11_unlinkFirst_49 : decode cJ11_unlinkFirst 49 = .ok (.putfield 7, 3) := dk_181 0 7 (dk_at dksJ11_unlinkFirst_2 5 rfl rfl)
theorem dJ11_unlinkFirst_52 : decode cJ11_unlinkFirst 52 = .ok (.aload_n 0, 1) := dk_42 (dk_at dksJ11_unlinkFirst_2 8 rfl rfl)
theorem dJ11_unlinkFirst_53 : decode cJ11_unlinkFirst 53 = .ok (.dup, 1) := dk_89 (dk_at dksJ11_unlinkFirst_2 9 rfl rfl)
theorem dJ11_unlinkFirst_54 : decode cJ11_unlinkFirst 54 = .ok (.getfield 33, 3) := dk_180 0 33 (dk_at dksJ11_unlinkFirst_2 10 rfl rfl)
theorem dJ11_unlinkFirst_57 : decode cJ11_unlinkFirst 57 = .ok (.iconst 1, 1) := dk_4 (dk_at dksJ11_unlinkFirst_2 13 rfl rfl)
theorem dJ11_unlinkFirst_58 : decode cJ11_unlinkFirst 58 = .ok (.iadd, 1) := dk_96 (dk_at dksJ11_unlinkFirst_2 14 rfl rfl)
theorem dJ11_unlinkFirst_59 : decode cJ11_unlinkFirst 59 = .ok (.putfield 33, 3) := dk_181 0 33 (dk_at dksJ11_unlinkFirst_2 15 rfl rfl)
theorem dJ11_unlinkFirst_62 : decode cJ11_unlinkFirst 62 = .ok (.aload_n 2, 1) := dk_44 (dk_at dksJ11_unlinkFirst_2 18 rfl rfl)
theorem dJ11_unlinkFirst_63 : decode cJ11_unlinkFirst 63 = .ok (.areturn, 1) := dk_176 (dk_at dksJ11_unlinkFirst_2 19 rfl rfl)
abbrev cJ11_addLast : ByteArray := prog_62_method_14_code
def yJ11_addLast : MethodName := ⟨RJ11, "addLast", "(Ljava/lang/Object;)V"⟩
def dkwJ11_addLast_0 : List UInt8 := [42, 43, 182, 0, 57, 177]
abbrev dktJ11_addLast_0 : List UInt8 := dkwJ11_addLast_0 ++ []
theorem dksJ11_addLast_0 : cJ11_addLast.data.toList.drop 0 = dktJ11_addLast_0 := by decide +kernel
theorem dJ11_addLast_0 : decode cJ11_addLast 0 = .ok (.aload_n 0, 1) := dk_42 (dk_at dksJ11_addLast_0 0 rfl rfl)
theorem dJ11_addLast_1 : decode cJ11_addLast 1 = .ok (.aload_n 1, 1) := dk_43 (dk_at dksJ11_addLast_0 1 rfl rfl)
theorem dJ11_addLast_2 : decode cJ11_addLast 2 = .ok (.invokevirtual 57, 3) := dk_182 0 57 (dk_at dksJ11_addLast_0 2 rfl rfl)
theorem dJ11_addLast_5 : decode cJ11_addLast 5 = .ok (.return_, 1) := dk_177 (dk_at dksJ11_addLast_0 5 rfl rfl)
abbrev cJ11_remove : ByteArray := prog_62_method_25_code
def yJ11_remove : MethodName := ⟨RJ11, "remove", "(I)Ljava/lang/Object;"⟩
def dkwJ11_remove_0 : List UInt8 := [42, 27, 182, 0, 90, 42, 42, 27, 182, 0, 86, 182, 0, 64, 176]
abbrev dktJ11_remove_0 : List UInt8 := dkwJ11_remove_0 ++ []
theorem dksJ11_remove_0 : cJ11_remove.data.toList.drop 0 = dktJ11_remove_0 := by decide +kernel
theorem dJ11_remove_0 : decode cJ11_remove 0 = .ok (.aload_n 0, 1) := dk_42 (dk_at dksJ11_remove_0 0 rfl rfl)
theorem dJ11_remove_1 : decode cJ11_remove 1 = .ok (.iload_n 1, 1) := dk_27 (dk_at dksJ11_remove_0 1 rfl rfl)
theorem dJ11_remove_2 : decode cJ11_remove 2 = .ok (.invokevirtual 90, 3) := dk_182 0 90 (dk_at dksJ11_remove_0 2 rfl rfl)
theorem dJ11_remove_5 : decode cJ11_remove 5 = .ok (.aload_n 0, 1) := dk_42 (dk_at dksJ11_remove_0 5 rfl rfl)
theorem dJ11_remove_6 : decode cJ11_remove 6 = .ok (.aload_n 0, 1) := dk_42 (dk_at dksJ11_remove_0 6 rfl rfl)
theorem dJ11_remove_7 : decode cJ11_remove 7 = .ok (.iload_n 1, 1) := dk_27 (dk_at dksJ11_remove_0 7 rfl rfl)
theorem dJ11_remove_8 : decode cJ11_remove 8 = .ok (.invokevirtual 86, 3) := dk_182 0 86 (dk_at dksJ11_remove_0 8 rfl rfl)
theorem dJ11_remove_11 : decode cJ11_remove 11 = .ok (.invokevirtual 64, 3) := dk_182 0 64 (dk_at dksJ11_remove_0 11 rfl rfl)
theorem dJ11_remove_14 : decode cJ11_remove 14 = .ok (.areturn, 1) := dk_176 (dk_at dksJ11_remove_0 14 rfl rfl)
abbrev cJ11_unlink : ByteArray := prog_62_method_8_code
def yJ11_unlink : MethodName := ⟨RJ11, "unlink", "(Ljava/util/LinkedList$Node;)Ljava/lang/Object;"⟩
def dkwJ11_unlink_3 : List UInt8 := [180, 0, 7, 4, 100, 181, 0, 7, 42, 89, 180, 0, 33, 4, 96, 181, 0, 33, 44, 176]
abbrev dktJ11_unlink_3 : List UInt8 := dkwJ11_unlink_3 ++ []
def dkwJ11_unlink_2 : List UInt8 := [181, 0, 27, 167, 0, 14, 45, 25, 4, 181, 0, 30, 43, 1, 181, 0, 36, 43, 1, 181, 0, 39, 42, 89]
abbrev dktJ11_unlink_2 : List UInt8 := dkwJ11_unlink_2 ++ dktJ11_unlink_3
def dkwJ11_unlink_1 : List UInt8 := [181, 0, 18, 167, 0, 14, 25, 4, 45, 181, 0, 36, 43, 1, 181, 0, 30, 45, 199, 0, 12, 42, 25, 4]
abbrev dktJ11_unlink_1 : List UInt8 := dkwJ11_unlink_1 ++ dktJ11_unlink_2
def dkwJ11_unlink_0 : List UInt8 := [43, 180, 0, 39, 77, 43, 180, 0, 36, 78, 43, 180, 0, 30, 58, 4, 25, 4, 199, 0, 11, 42, 45]
abbrev dktJ11_unlink_0 : List UInt8 := dkwJ11_unlink_0 ++ dktJ11_unlink_1
theorem dksJ11_unlink_0 : cJ11_unlink.data.toList.drop 0 = dktJ11_unlink_0 := by decide +kernel
theorem dksJ11_unlink_1 : cJ11_unlink.data.toList.drop 23 = dktJ11_unlink_1 := dk_seg dksJ11_unlink_0 23 rfl rfl
theorem dksJ11_unlink_2 : cJ11_unlink.data.toList.drop 47 = dktJ11_unlink_2 := dk_seg dksJ11_unlink_1 24 rfl rfl
theorem dksJ11_unlink_3 : cJ11_unlink.data.toList.drop 71 = dktJ11_unlink_3 := dk_seg dksJ11_unlink_2 24 rfl rfl
theorem dJ11_unlink_0 : decode cJ11_unlink 0 = .ok (.aload_n 1, 1) := dk_43 (dk_at dksJ11_unlink_0 0 rfl rfl)
theorem dJ11_unlink_1 : decode cJ11_unlink 1 = .ok (.getfield 39, 3) := dk_180 0 39 (dk_at dksJ11_unlink_0 1 rfl rfl)
theorem dJ11_unlink_4 : decode cJ11_unlink 4 = .ok (.astore_n 2, 1) := dk_77 (dk_at dksJ11_unlink_0 4 rfl rfl)
theorem dJ11_unlink_5 : decode cJ11_unlink 5 = .ok (.aload_n 1, 1) := dk_43 (dk_at dksJ11_unlink_0 5 rfl rfl)
theorem dJ11_unlink_6 : decode cJ11_unlink 6 = .ok (.getfield 36, 3) := dk_180 0 36 (dk_at dksJ11_unlink_0 6 rfl rfl)
theorem dJ11_unlink_9 : decode cJ11_unlink 9 = .ok (.astore_n 3, 1) := dk_78 (dk_at dksJ11_unlink_0 9 rfl rfl)
theorem dJ11_unlink_10 : decode cJ11_unlink 10 = .ok (.aload_n 1, 1) := dk_43 (dk_at dksJ11_unlink_0 10 rfl rfl)
theorem dJ11_unlink_11 : decode cJ11_unlink 11 = .ok (.getfield 30, 3) := dk_180 0 30 (dk_at dksJ11_unlink_0 11 rfl rfl)
theorem dJ11_unlink_14 : decode cJ11_unlink 14 = .ok (.astore 4, 2) := dk_58 4 (dk_at dksJ11_unlink_0 14 rfl rfl)
theorem dJ11_unlink_16 : decode cJ11_unlink 16 = .ok (.aload 4, 2) := dk_25 4 (dk_at dksJ11_unlink_0 16 rfl rfl)
theorem dJ11_unlink_18 : decode cJ11_unlink 18 = .ok (.ifnonnull 11, 3) := dk_199 0 11 (dk_at dksJ11_unlink_0 18 rfl rfl)
theorem dJ11_unlink_21 : decode cJ11_unlink 21 = .ok (.aload_n 0, 1) := dk_42 (dk_at dksJ11_unlink_0 21 rfl rfl)
theorem dJ11_unlink_22 : decode cJ11_unlink 22 = .ok (.aload_n 3, 1) := dk_45 (dk_at dksJ11_unlink_0 22 rfl rfl)
theorem dJ11_unlink_23 : decode cJ11_unlink 23 = .ok (.putfield 18, 3) := dk_181 0 18 (dk_at dksJ11_unlink_1 0 rfl rfl)
theorem dJ11_unlink_26 : decode cJ11_unlink 26 = .ok (.goto 14, 3) := dk_167 0 14 (dk_at dksJ11_unlink_1 3 rfl rfl)
theorem dJ11_unlink_29 : decode cJ11_unlink 29 = .ok (.aload 4, 2) := dk_25 4 (dk_at dksJ11_unlink_1 6 rfl rfl)
theorem dJ11_unlink_31 : decode cJ11_unlink 31 = .ok (.aload_n 3, 1) := dk_45 (dk_at dksJ11_unlink_1 8 rfl rfl)
theorem dJ11_unlink_32 : decode cJ11_unlink 32 = .ok (.putfield 36, 3) := dk_181 0 36 (dk_at dksJ11_unlink_1 9 rfl rfl)
theorem dJ11_unlink_35 : decode cJ11_unlink 35 = .ok (.aload_n 1, 1) := dk_43 (dk_at dksJ11_unlink_1 12 rfl rfl)
theorem dJ11_unlink_36 : decode cJ11_unlink 36 = .ok (.aconst_null, 1) := dk_1 (dk_at dksJ11_unlink_1 13 rfl rfl)
theorem dJ11_unlink_37 : decode cJ11_unlink 37 = .ok (.putfield 30, 3) := dk_181 0 30 (dk_at dksJ11_unlink_1 14 rfl rfl)
theorem dJ11_unlink_40 : decode cJ11_unlink 40 = .ok (.aload_n 3, 1) := dk_45 (dk_at dksJ11_unlink_1 17 rfl rfl)
theorem dJ11_unlink_41 : decode cJ11_unlink 41 = .ok (.ifnonnull 12, 3) := dk_199 0 12 (dk_at dksJ11_unlink_1 18 rfl rfl)
theorem dJ11_unlink_44 : decode cJ11_unlink 44 = .ok (.aload_n 0, 1) := dk_42 (dk_at dksJ11_unlink_1 21 rfl rfl)
theorem dJ11_unlink_45 : decode cJ11_unlink 45 = .ok (.aload 4, 2) := dk_25 4 (dk_at dksJ11_unlink_1 22 rfl rfl)
theorem dJ11_unlink_47 : decode cJ11_unlink 47 = .ok (.putfield 27, 3) := dk_181 0 27 (dk_at dksJ11_unlink_2 0 rfl rfl)
theorem dJ11_unlink_50 : decode cJ11_unlink 50 = .ok (.goto 14, 3) := dk_167 0 14 (dk_at dksJ11_unlink_2 3 rfl rfl)
theorem dJ11_unlink_53 : decode cJ11_unlink 53 = .ok (.aload_n 3, 1) := dk_45 (dk_at dksJ11_unlink_2 6 rfl rfl)
theorem dJ11_unlink_54 : decode cJ11_unlink 54 = .ok (.aload 4, 2) := dk_25 4 (dk_at dksJ11_unlink_2 7 rfl rfl)
theorem dJ11_unlink_56 : decode cJ11_unlink 56 = .ok (.putfield 30, 3) := dk_181 0 30 (dk_at dksJ11_unlink_2 9 rfl rfl)
theorem dJ11_unlink_59 : decode cJ11_unlink 59 = .ok (.aload_n 1, 1) := dk_43 (dk_at dksJ11_unlink_2 12 rfl rfl)
theorem dJ11_unlink_60 : decode cJ11_unlink 60 = .ok (.aconst_null, 1) := dk_1 (dk_at dksJ11_unlink_2 13 rfl rfl)
theorem dJ11_unlink_61 : decode cJ11_unlink 61 = .ok (.putfield 36, 3) := dk_181 0 36 (dk_at dksJ11_unlink_2 14 rfl rfl)
theorem dJ11_unlink_64 : decode cJ11_unlink 64 = .ok (.aload_n 1, 1) := dk_43 (dk_at dksJ11_unlink_2 17 rfl rfl)
theorem dJ11_unlink_65 : decode cJ11_unlink 65 = .ok (.aconst_null, 1) := dk_1 (dk_at dksJ11_unlink_2 18 rfl rfl)
theorem dJ11_unlink_66 : decode cJ11_unlink 66 = .ok (.putfield 39, 3) := dk_181 0 39 (dk_at dksJ11_unlink_2 19 rfl rfl)
theorem dJ11_unlink_69 : decode cJ11_unlink 69 = .ok (.aload_n 0, 1) := dk_42 (dk_at dksJ11_unlink_2 22 rfl rfl)
theorem dJ11_unlink_70 : decode cJ11_unlink 70 = .ok (.dup, 1) := dk_89 (dk_at dksJ11_unlink_2 23 rfl rfl)
theorem dJ11_unlink_71 : decode cJ11_unlink 71 = .ok (.getfield 7, 3) := dk_180 0 7 (dk_at dksJ11_unlink_3 0 rfl rfl)
theorem dJ11_unlink_74 : decode cJ11_unlink 74 = .ok (.iconst 1, 1) := dk_4 (dk_at dksJ11_unlink_3 3 rfl rfl)
theorem dJ11_unlink_75 : decode cJ11_unlink 75 = .ok (.isub, 1) := dk_100 (dk_at dksJ11_unlink_3 4 rfl rfl)
theorem dJ11_unlink_76 : decode cJ11_unlink 76 = .ok (.putfield 7, 3) := dk_181 0 7 (dk_at dksJ11_unlink_3 5 rfl rfl)
theorem dJ11_unlink_79 : decode cJ11_unlink 79 = .ok (.aload_n 0, 1) := dk_42 (dk_at dksJ11_unlink_3 8 rfl rfl)
theorem dJ11_unlink_80 : decode cJ11_unlink 80 = .ok (.dup, 1) := dk_89 (dk_at dksJ11_unlink_3 9 rfl rfl)
theorem dJ11_unlink_81 : decode cJ11_unlink 81 = .ok (.getfield 33, 3) := dk_180 0 33 (dk_at dksJ11_unlink_3 10 rfl rfl)
theorem dJ11_unlink_84 : decode cJ11_unlink 84 = .ok (.iconst 1, 1) := dk_4 (dk_at dksJ11_unlink_3 13 rfl rfl)
theorem dJ11_unlink_85 : decode cJ11_unlink 85 = .ok (.iadd, 1) := dk_96 (dk_at dksJ11_unlink_3 14 rfl rfl)
theorem dJ11_unlink_86 : decode cJ11_unlink 86 = .ok (.putfield 33, 3) := dk_181 0 33 (dk_at dksJ11_unlink_3 15 rfl rfl)
theorem dJ11_unlink_89 : decode cJ11_unlink 89 = .ok (.aload_n 2, 1) := dk_44 (dk_at dksJ11_unlink_3 18 rfl rfl)
theorem dJ11_unlink_90 : decode cJ11_unlink 90 = .ok (.areturn, 1) := dk_176 (dk_at dksJ11_unlink_3 19 rfl rfl)
abbrev cJ11_removeLast : ByteArray := prog_62_method_12_code
def yJ11_removeLast : MethodName := ⟨RJ11, "removeLast", "()Ljava/lang/Object;"⟩
def dkwJ11_removeLast_0 : List UInt8 := [42, 180, 0, 27, 76, 43, 199, 0, 11, 187, 0, 43, 89, 183, 0, 45, 191, 42, 43, 182, 0, 50, 176]
abbrev dktJ11_removeLast_0 : List UInt8 := dkwJ11_removeLast_0 ++ []
theorem dksJ11_removeLast_0 : cJ11_removeLast.data.toList.drop 0 = dktJ11_removeLast_0 := by decide +kernel
theorem dJ11_removeLast_0 : decode cJ11_removeLast 0 = .ok (.aload_n 0, 1) := dk_42 (dk_at dksJ11_removeLast_0 0 rfl rfl)
theorem dJ11_removeLast_1 : decode cJ11_removeLast 1 = .ok (.getfield 27, 3) := dk_180 0 27 (dk_at dksJ11_removeLast_0 1 rfl rfl)
theorem dJ11_removeLast_4 : decode cJ11_removeLast 4 = .ok (.astore_n 1, 1) := dk_76 (dk_at dksJ11_removeLast_0 4 rfl rfl)
theorem dJ11_removeLast_5 : decode cJ11_removeLast 5 = .ok (.aload_n 1, 1) := dk_43 (dk_at dksJ11_removeLast_0 5 rfl rfl)
theorem dJ11_removeLast_6 : decode cJ11_removeLast 6 = .ok (.ifnonnull 11, 3) := dk_199 0 11 (dk_at dksJ11_removeLast_0 6 rfl rfl)
theorem dJ11_removeLast_9 : decode cJ11_removeLast 9 = .ok (.new 43, 3) := dk_187 0 43 (dk_at dksJ11_removeLast_0 9 rfl rfl)
theorem dJ11_removeLast_12 : decode cJ11_removeLast 12 = .ok (.dup, 1) := dk_89 (dk_at dksJ11_removeLast_0 12 rfl rfl)
theorem dJ11_removeLast_13 : decode cJ11_removeLast 13 = .ok (.invokespecial 45, 3) := dk_183 0 45 (dk_at dksJ11_removeLast_0 13 rfl rfl)
theorem dJ11_removeLast_16 : decode cJ11_removeLast 16 = .ok (.athrow, 1) := dk_191 (dk_at dksJ11_removeLast_0 16 rfl rfl)
theorem dJ11_removeLast_17 : decode cJ11_removeLast 17 = .ok (.aload_n 0, 1) := dk_42 (dk_at dksJ11_removeLast_0 17 rfl rfl)
theorem dJ11_removeLast_18 : decode cJ11_removeLast 18 = .ok (.aload_n 1, 1) := dk_43 (dk_at dksJ11_removeLast_0 18 rfl rfl)
theorem dJ11_removeLast_19 : decode cJ11_removeLast 19 = .ok (.invokevirtual 50, 3) := dk_182 0 50 (dk_at dksJ11_removeLast_0 19 rfl rfl)
theorem dJ11_removeLast_22 : decode cJ11_removeLast 22 = .ok (.areturn, 1) := dk_176 (dk_at dksJ11_removeLast_0 22 rfl rfl)
abbrev cJ11_unlinkLast : ByteArray := prog_62_method_7_code
def yJ11_unlinkLast : MethodName := ⟨RJ11, "unlinkLast", "(Ljava/util/LinkedList$Node;)Ljava/lang/Object;"⟩
def dkwJ11_unlinkLast_2 : List UInt8 := [180, 0, 7, 4, 100, 181, 0, 7, 42, 89, 180, 0, 33, 4, 96, 181, 0, 33, 44, 176]
abbrev dktJ11_unlinkLast_2 : List UInt8 := dkwJ11_unlinkLast_2 ++ []
def dkwJ11_unlinkLast_1 : List UInt8 := [181, 0, 27, 45, 199, 0, 11, 42, 1, 181, 0, 18, 167, 0, 8, 45, 1, 181, 0, 36, 42, 89]
abbrev dktJ11_unlinkLast_1 : List UInt8 := dkwJ11_unlinkLast_1 ++ dktJ11_unlinkLast_2
def dkwJ11_unlinkLast_0 : List UInt8 := [43, 180, 0, 39, 77, 43, 180, 0, 30, 78, 43, 1, 181, 0, 39, 43, 1, 181, 0, 30, 42, 45]
abbrev dktJ11_unlinkLast_0 : List UInt8 := dkwJ11_unlinkLast_0 ++ dktJ11_unlinkLast_1
theorem dksJ11_unlinkLast_0 : cJ11_unlinkLast.data.toList.drop 0 = dktJ11_unlinkLast_0 := by decide +kernel
theorem dksJ11_unlinkLast_1 : cJ11_unlinkLast.data.toList.drop 22 = dktJ11_unlinkLast_1 := dk_seg dksJ11_unlinkLast_0 22 rfl rfl
theorem dksJ11_unlinkLast_2 : cJ11_unlinkLast.data.toList.drop 44 = dktJ11_unlinkLast_2 := dk_seg dksJ11_unlinkLast_1 22 rfl rfl
theorem dJ11_unlinkLast_0 : decode cJ11_unlinkLast 0 = .ok (.aload_n 1, 1) := dk_43 (dk_at dksJ11_unlinkLast_0 0 rfl rfl)
theorem dJ11_unlinkLast_1 : decode cJ11_unlinkLast 1 = .ok (.getfield 39, 3) := dk_180 0 39 (dk_at dksJ11_unlinkLast_0 1 rfl rfl)
theorem dJ11_unlinkLast_4 : decode cJ11_unlinkLast 4 = .ok (.astore_n 2, 1) := dk_77 (dk_at dksJ11_unlinkLast_0 4 rfl rfl)
theorem dJ11_unlinkLast_5 : decode cJ11_unlinkLast 5 = .ok (.aload_n 1, 1) := dk_43 (dk_at dksJ11_unlinkLast_0 5 rfl rfl)
theorem dJ11_unlinkLast_6 : decode cJ11_unlinkLast 6 = .ok (.getfield 30, 3) := dk_180 0 30 (dk_at dksJ11_unlinkLast_0 6 rfl rfl)
theorem dJ11_unlinkLast_9 : decode cJ11_unlinkLast 9 = .ok (.astore_n 3, 1) := dk_78 (dk_at dksJ11_unlinkLast_0 9 rfl rfl)
theorem dJ11_unlinkLast_10 : decode cJ11_unlinkLast 10 = .ok (.aload_n 1, 1) := dk_43 (dk_at dksJ11_unlinkLast_0 10 rfl rfl)
theorem dJ11_unlinkLast_11 : decode cJ11_unlinkLast 11 = .ok (.aconst_null, 1) := dk_1 (dk_at dksJ11_unlinkLast_0 11 rfl rfl)
theorem dJ11_unlinkLast_12 : decode cJ11_unlinkLast 12 = .ok (.putfield 39, 3) := dk_181 0 39 (dk_at dksJ11_unlinkLast_0 12 rfl rfl)
theorem dJ11_unlinkLast_15 : decode cJ11_unlinkLast 15 = .ok (.aload_n 1, 1) := dk_43 (dk_at dksJ11_unlinkLast_0 15 rfl rfl)
theorem dJ11_unlinkLast_16 : decode cJ11_unlinkLast 16 = .ok (.aconst_null, 1) := dk_1 (dk_at dksJ11_unlinkLast_0 16 rfl rfl)
theorem dJ11_unlinkLast_17 : decode cJ11_unlinkLast 17 = .ok (.putfield 30, 3) := dk_181 0 30 (dk_at dksJ11_unlinkLast_0 17 rfl rfl)
theorem dJ11_unlinkLast_20 : decode cJ11_unlinkLast 20 = .ok (.aload_n 0, 1) := dk_42 (dk_at dksJ11_unlinkLast_0 20 rfl rfl)
theorem dJ11_unlinkLast_21 : decode cJ11_unlinkLast 21 = .ok (.aload_n 3, 1) := dk_45 (dk_at dksJ11_unlinkLast_0 21 rfl rfl)
theorem dJ11_unlinkLast_22 : decode cJ11_unlinkLast 22 = .ok (.putfield 27, 3) := dk_181 0 27 (dk_at dksJ11_unlinkLast_1 0 rfl rfl)
theorem dJ11_unlinkLast_25 : decode cJ11_unlinkLast 25 = .ok (.aload_n 3, 1) := dk_45 (dk_at dksJ11_unlinkLast_1 3 rfl rfl)
theorem dJ11_unlinkLast_26 : decode cJ11_unlinkLast 26 = .ok (.ifnonnull 11, 3) := dk_199 0 11 (dk_at dksJ11_unlinkLast_1 4 rfl rfl)
theorem dJ11_unlinkLast_29 : decode cJ11_unlinkLast 29 = .ok (.aload_n 0, 1) := dk_42 (dk_at dksJ11_unlinkLast_1 7 rfl rfl)
theorem dJ11_unlinkLast_30 : decode cJ11_unlinkLast 30 = .ok (.aconst_null, 1) := dk_1 (dk_at dksJ11_unlinkLast_1 8 rfl rfl)
theorem dJ11_unlinkLast_31 : decode cJ11_unlinkLast 31 = .ok (.putfield 18, 3) := dk_181 0 18 (dk_at dksJ11_unlinkLast_1 9 rfl rfl)
theorem dJ11_unlinkLast_34 : decode cJ11_unlinkLast 34 = .ok (.goto 8, 3) := dk_167 0 8 (dk_at dksJ11_unlinkLast_1 12 rfl rfl)
theorem dJ11_unlinkLast_37 : decode cJ11_unlinkLast 37 = .ok (.aload_n 3, 1) := dk_45 (dk_at dksJ11_unlinkLast_1 15 rfl rfl)
theorem dJ11_unlinkLast_38 : decode cJ11_unlinkLast 38 = .ok (.aconst_null, 1) := dk_1 (dk_at dksJ11_unlinkLast_1 16 rfl rfl)
theorem dJ11_unlinkLast_39 : decode cJ11_unlinkLast 39 = .ok (.putfield 36, 3) := dk_181 0 36 (dk_at dksJ11_unlinkLast_1 17 rfl rfl)
theorem dJ11_unlinkLast_42 : decode cJ11_unlinkLast 42 = .ok (.aload_n 0, 1) := dk_42 (dk_at dksJ11_unlinkLast_1 20 rfl rfl)
theorem dJ11_unlinkLast_43 : decode cJ11_unlinkLast 43 = .ok (.dup, 1) := dk_89 (dk_at dksJ11_unlinkLast_1 21 rfl rfl)
theorem dJ11_unlinkLast_44 : decode cJ11_unlinkLast 44 = .ok (.getfield 7, 3) := dk_180 0 7 (dk_at dksJ11_unlinkLast_2 0 rfl rfl)
theorem dJ11_unlinkLast_47 : decode cJ11_unlinkLast 47 = .ok (.iconst 1, 1) := dk_4 (dk_at dksJ11_unlinkLast_2 3 rfl rfl)
theorem dJ11_unlinkLast_48 : decode cJ11_unlinkLast 48 = .ok (.isub, 1) := dk_100 (dk_at dksJ11_unlinkLast_2 4 rfl rfl)
theorem dJ11_unlinkLast_49 : decode cJ11_unlinkLast 49 = .ok (.putfield 7, 3) := dk_181 0 7 (dk_at dksJ11_unlinkLast_2 5 rfl rfl)
theorem dJ11_unlinkLast_52 : decode cJ11_unlinkLast 52 = .ok (.aload_n 0, 1) := dk_42 (dk_at dksJ11_unlinkLast_2 8 rfl rfl)
theorem dJ11_unlinkLast_53 : decode cJ11_unlinkLast 53 = .ok (.dup, 1) := dk_89 (dk_at dksJ11_unlinkLast_2 9 rfl rfl)
theorem dJ11_unlinkLast_54 : decode cJ11_unlinkLast 54 = .ok (.getfield 33, 3) := dk_180 0 33 (dk_at dksJ11_unlinkLast_2 10 rfl rfl)
theorem dJ11_unlinkLast_57 : decode cJ11_unlinkLast 57 = .ok (.iconst 1, 1) := dk_4 (dk_at dksJ11_unlinkLast_2 13 rfl rfl)
theorem dJ11_unlinkLast_58 : decode cJ11_unlinkLast 58 = .ok (.iadd, 1) := dk_96 (dk_at dksJ11_unlinkLast_2 14 rfl rfl)
theorem dJ11_unlinkLast_59 : decode cJ11_unlinkLast 59 = .ok (.putfield 33, 3) := dk_181 0 33 (dk_at dksJ11_unlinkLast_2 15 rfl rfl)
theorem dJ11_unlinkLast_62 : decode cJ11_unlinkLast 62 = .ok (.aload_n 2, 1) := dk_44 (dk_at dksJ11_unlinkLast_2 18 rfl rfl)
theorem dJ11_unlinkLast_63 : decode cJ11_unlinkLast 63 = .ok (.areturn, 1) := dk_176 (dk_at dksJ11_unlinkLast_2 19 rfl rfl)
theorem q139 : (Jvm.Cond.initialized "java/util/LinkedList") ∈ lw_all := lw_g (lw_at lw_m1 17 rfl) rfl
theorem q243 : (Jvm.Cond.selects "java/util/LinkedList" ({ cls := "java/lang/Object", name := "getClass", desc := "()Ljava/lang/Class;" } : Jvm.MethodName) ({ cls := "java/lang/Object", name := "getClass", desc := "()Ljava/lang/Class;" } : Jvm.MethodName)) ∈ lw_all := lw_g (lw_at lw_m1 121 rfl) rfl
theorem q356 : (Jvm.Cond.instantiable "java/util/LinkedList" (4 : Nat)) ∈ lw_all := lw_g (lw_at lw_m1 234 rfl) rfl
theorem q358 : (Jvm.Cond.instanceMethod ({ cls := "java/util/LinkedList", name := "<init>", desc := "()V" } : Jvm.MethodName)) ∈ lw_all := lw_g (lw_at lw_m1 236 rfl) rfl
theorem q359 : (Jvm.Cond.code ({ cls := "java/util/LinkedList", name := "<init>", desc := "()V" } : Jvm.MethodName) prog_62_method_1_code (1 : Nat) (Option.none : Option Jvm.ClassFile.FieldType)) ∈ lw_all := lw_g (lw_at lw_m1 237 rfl) rfl
theorem q360 : (Jvm.Cond.methodLink "java/util/LinkedList" (1 : Nat) ({ cls := "java/util/AbstractSequentialList", name := "<init>", desc := "()V" } : Jvm.MethodName)) ∈ lw_all := lw_g (lw_at lw_m1 238 rfl) rfl
theorem q367 : (Jvm.Cond.fieldLink "java/util/LinkedList" (7 : Nat) "java/util/LinkedList" "size" "I") ∈ lw_all := lw_g (lw_at lw_m2 5 rfl) rfl
theorem q369 : (Jvm.Cond.fieldLink "java/util/LinkedList" (18 : Nat) "java/util/LinkedList" "first" "Ljava/util/LinkedList$Node;") ∈ lw_all := lw_g (lw_at lw_m2 7 rfl) rfl
theorem q370 : (Jvm.Cond.fieldLink "java/util/LinkedList" (27 : Nat) "java/util/LinkedList" "last" "Ljava/util/LinkedList$Node;") ∈ lw_all := lw_g (lw_at lw_m2 8 rfl) rfl
theorem q373 : (Jvm.Cond.sameField "java/util/LinkedList" "java/util/AbstractList" "modCount" "I") ∈ lw_all := lw_g (lw_at lw_m2 11 rfl) rfl
theorem q375 : (Jvm.Cond.fieldLink "java/util/LinkedList" (33 : Nat) "java/util/LinkedList" "modCount" "I") ∈ lw_all := lw_g (lw_at lw_m2 13 rfl) rfl
theorem q376 : (Jvm.Cond.lays "java/util/LinkedList" "java/util/LinkedList" "size" "I") ∈ lw_all := lw_g (lw_at lw_m2 14 rfl) rfl
theorem q377 : (Jvm.Cond.soleField "java/util/LinkedList" "size") ∈ lw_all := lw_g (lw_at lw_m2 15 rfl) rfl
theorem q378 : (Jvm.Cond.lays "java/util/LinkedList" "java/util/LinkedList" "first" "Ljava/util/LinkedList$Node;") ∈ lw_all := lw_g (lw_at lw_m2 16 rfl) rfl
theorem q379 : (Jvm.Cond.soleField "java/util/LinkedList" "first") ∈ lw_all := lw_g (lw_at lw_m2 17 rfl) rfl
theorem q380 : (Jvm.Cond.lays "java/util/LinkedList" "java/util/LinkedList" "last" "Ljava/util/LinkedList$Node;") ∈ lw_all := lw_g (lw_at lw_m2 18 rfl) rfl
theorem q381 : (Jvm.Cond.soleField "java/util/LinkedList" "last") ∈ lw_all := lw_g (lw_at lw_m2 19 rfl) rfl
theorem q382 : (Jvm.Cond.lays "java/util/LinkedList" "java/util/AbstractList" "modCount" "I") ∈ lw_all := lw_g (lw_at lw_m2 20 rfl) rfl
theorem q384 : (Jvm.Cond.superclass "java/util/LinkedList" "java/util/AbstractSequentialList") ∈ lw_all := lw_g (lw_at lw_m2 22 rfl) rfl
theorem q584 : (Jvm.Cond.instanceMethod ({ cls := "java/util/LinkedList", name := "size", desc := "()I" } : Jvm.MethodName)) ∈ lw_all := lw_g (lw_at lw_m2 222 rfl) rfl
theorem q585 : (Jvm.Cond.selects "java/util/LinkedList" ({ cls := "java/util/LinkedList", name := "size", desc := "()I" } : Jvm.MethodName) ({ cls := "java/util/LinkedList", name := "size", desc := "()I" } : Jvm.MethodName)) ∈ lw_all := lw_g (lw_at lw_m2 223 rfl) rfl
theorem q586 : (Jvm.Cond.code ({ cls := "java/util/LinkedList", name := "size", desc := "()I" } : Jvm.MethodName) prog_62_method_16_code (1 : Nat) (Option.some Jvm.ClassFile.FieldType.int)) ∈ lw_all := lw_g (lw_at lw_m2 224 rfl) rfl
theorem q592 : (Jvm.Cond.instanceMethod ({ cls := "java/util/LinkedList", name := "get", desc := "(I)Ljava/lang/Object;" } : Jvm.MethodName)) ∈ lw_all := lw_g (lw_at lw_m2 230 rfl) rfl
theorem q593 : (Jvm.Cond.selects "java/util/LinkedList" ({ cls := "java/util/LinkedList", name := "get", desc := "(I)Ljava/lang/Object;" } : Jvm.MethodName) ({ cls := "java/util/LinkedList", name := "get", desc := "(I)Ljava/lang/Object;" } : Jvm.MethodName)) ∈ lw_all := lw_g (lw_at lw_m2 231 rfl) rfl
theorem q594 : (Jvm.Cond.code ({ cls := "java/util/LinkedList", name := "get", desc := "(I)Ljava/lang/Object;" } : Jvm.MethodName) prog_62_method_22_code (2 : Nat) (Option.some (Jvm.ClassFile.FieldType.object "java/lang/Object"))) ∈ lw_all := lw_g (lw_at lw_m2 232 rfl) rfl
theorem q595 : (Jvm.Cond.methodLink "java/util/LinkedList" (90 : Nat) ({ cls := "java/util/LinkedList", name := "checkElementIndex", desc := "(I)V" } : Jvm.MethodName)) ∈ lw_all := lw_g (lw_at lw_m2 233 rfl) rfl
theorem q596 : (Jvm.Cond.privateMethod ({ cls := "java/util/LinkedList", name := "checkElementIndex", desc := "(I)V" } : Jvm.MethodName)) ∈ lw_tbl := lw_at lw_m2 234 rfl
theorem q597 : (Jvm.Cond.instanceMethod ({ cls := "java/util/LinkedList", name := "checkElementIndex", desc := "(I)V" } : Jvm.MethodName)) ∈ lw_all := lw_g (lw_at lw_m2 235 rfl) rfl
theorem q598 : (Jvm.Cond.code ({ cls := "java/util/LinkedList", name := "checkElementIndex", desc := "(I)V" } : Jvm.MethodName) prog_62_method_29_code (2 : Nat) (Option.none : Option Jvm.ClassFile.FieldType)) ∈ lw_all := lw_g (lw_at lw_m2 236 rfl) rfl
theorem q599 : (Jvm.Cond.methodLink "java/util/LinkedList" (115 : Nat) ({ cls := "java/util/LinkedList", name := "isElementIndex", desc := "(I)Z" } : Jvm.MethodName)) ∈ lw_all := lw_g (lw_at lw_m2 237 rfl) rfl
theorem q600 : (Jvm.Cond.privateMethod ({ cls := "java/util/LinkedList", name := "isElementIndex", desc := "(I)Z" } : Jvm.MethodName)) ∈ lw_tbl := lw_at lw_m2 238 rfl
theorem q601 : (Jvm.Cond.instanceMethod ({ cls := "java/util/LinkedList", name := "isElementIndex", desc := "(I)Z" } : Jvm.MethodName)) ∈ lw_all := lw_g (lw_at lw_m2 239 rfl) rfl
theorem q602 : (Jvm.Cond.code ({ cls := "java/util/LinkedList", name := "isElementIndex", desc := "(I)Z" } : Jvm.MethodName) prog_62_method_26_code (2 : Nat) (Option.some Jvm.ClassFile.FieldType.boolean)) ∈ lw_all := lw_g (lw_at lw_m3 0 rfl) rfl
theorem q603 : (Jvm.Cond.classLink "java/util/LinkedList" (119 : Nat) "java/lang/IndexOutOfBoundsException") ∈ lw_all := lw_g (lw_at lw_m3 1 rfl) rfl
theorem q647 : (Jvm.Cond.methodLink "java/util/LinkedList" (121 : Nat) ({ cls := "java/util/LinkedList", name := "outOfBoundsMsg", desc := "(I)Ljava/lang/String;" } : Jvm.MethodName)) ∈ lw_all := lw_g (lw_at lw_m3 45 rfl) rfl
theorem q648 : (Jvm.Cond.privateMethod ({ cls := "java/util/LinkedList", name := "outOfBoundsMsg", desc := "(I)Ljava/lang/String;" } : Jvm.MethodName)) ∈ lw_tbl := lw_at lw_m3 46 rfl
theorem q649 : (Jvm.Cond.instanceMethod ({ cls := "java/util/LinkedList", name := "outOfBoundsMsg", desc := "(I)Ljava/lang/String;" } : Jvm.MethodName)) ∈ lw_all := lw_g (lw_at lw_m3 47 rfl) rfl
theorem q650 : (Jvm.Cond.code ({ cls := "java/util/LinkedList", name := "outOfBoundsMsg", desc := "(I)Ljava/lang/String;" } : Jvm.MethodName) prog_62_method_28_code (2 : Nat) (Option.some (Jvm.ClassFile.FieldType.object "java/lang/String"))) ∈ lw_all := lw_g (lw_at lw_m3 48 rfl) rfl
theorem q651 : (Jvm.Cond.classLink "java/util/LinkedList" (97 : Nat) "java/lang/StringBuilder") ∈ lw_all := lw_g (lw_at lw_m3 49 rfl) rfl
theorem q653 : (Jvm.Cond.methodLink "java/util/LinkedList" (99 : Nat) ({ cls := "java/lang/StringBuilder", name := "<init>", desc := "()V" } : Jvm.MethodName)) ∈ lw_all := lw_g (lw_at lw_m3 51 rfl) rfl
theorem q682 : (Jvm.Cond.stringRef "java/util/LinkedList" (100 : Nat) "Index: ") ∈ lw_tbl := lw_at lw_m3 80 rfl
theorem q683 : (Jvm.Cond.methodLink "java/util/LinkedList" (102 : Nat) ({ cls := "java/lang/StringBuilder", name := "append", desc := "(Ljava/lang/String;)Ljava/lang/StringBuilder;" } : Jvm.MethodName)) ∈ lw_all := lw_g (lw_at lw_m3 81 rfl) rfl
theorem q801 : (Jvm.Cond.methodLink "java/util/LinkedList" (106 : Nat) ({ cls := "java/lang/StringBuilder", name := "append", desc := "(I)Ljava/lang/StringBuilder;" } : Jvm.MethodName)) ∈ lw_all := lw_g (lw_at lw_m3 199 rfl) rfl
theorem q826 : (Jvm.Cond.stringRef "java/util/LinkedList" (109 : Nat) ", Size: ") ∈ lw_tbl := lw_at lw_m3 224 rfl
theorem q827 : (Jvm.Cond.methodLink "java/util/LinkedList" (111 : Nat) ({ cls := "java/lang/StringBuilder", name := "toString", desc := "()Ljava/lang/String;" } : Jvm.MethodName)) ∈ lw_all := lw_g (lw_at lw_m3 225 rfl) rfl
theorem q887 : (Jvm.Cond.methodLink "java/util/LinkedList" (125 : Nat) ({ cls := "java/lang/IndexOutOfBoundsException", name := "<init>", desc := "(Ljava/lang/String;)V" } : Jvm.MethodName)) ∈ lw_all := lw_g (lw_at lw_m4 45 rfl) rfl
theorem q912 : (Jvm.Cond.methodLink "java/util/LinkedList" (86 : Nat) ({ cls := "java/util/LinkedList", name := "node", desc := "(I)Ljava/util/LinkedList$Node;" } : Jvm.MethodName)) ∈ lw_all := lw_g (lw_at lw_m4 70 rfl) rfl
theorem q913 : (Jvm.Cond.instanceMethod ({ cls := "java/util/LinkedList", name := "node", desc := "(I)Ljava/util/LinkedList$Node;" } : Jvm.MethodName)) ∈ lw_all := lw_g (lw_at lw_m4 71 rfl) rfl
theorem q914 : (Jvm.Cond.selects "java/util/LinkedList" ({ cls := "java/util/LinkedList", name := "node", desc := "(I)Ljava/util/LinkedList$Node;" } : Jvm.MethodName) ({ cls := "java/util/LinkedList", name := "node", desc := "(I)Ljava/util/LinkedList$Node;" } : Jvm.MethodName)) ∈ lw_all := lw_g (lw_at lw_m4 72 rfl) rfl
theorem q915 : (Jvm.Cond.code ({ cls := "java/util/LinkedList", name := "node", desc := "(I)Ljava/util/LinkedList$Node;" } : Jvm.MethodName) prog_62_method_31_code (4 : Nat) (Option.some (Jvm.ClassFile.FieldType.object "java/util/LinkedList$Node"))) ∈ lw_all := lw_g (lw_at lw_m4 73 rfl) rfl
theorem q923 : (Jvm.Cond.sameMethod "java/util/LinkedList" "java/util/AbstractSequentialList" "iterator" "()Ljava/util/Iterator;") ∈ lw_all := lw_g (lw_at lw_m4 81 rfl) rfl
theorem q925 : (Jvm.Cond.selects "java/util/LinkedList" ({ cls := "java/util/LinkedList", name := "iterator", desc := "()Ljava/util/Iterator;" } : Jvm.MethodName) ({ cls := "java/util/AbstractSequentialList", name := "iterator", desc := "()Ljava/util/Iterator;" } : Jvm.MethodName)) ∈ lw_all := lw_g (lw_at lw_m4 83 rfl) rfl
theorem q931 : (Jvm.Cond.selects "java/util/LinkedList" ({ cls := "java/util/AbstractSequentialList", name := "listIterator", desc := "()Ljava/util/ListIterator;" } : Jvm.MethodName) ({ cls := "java/util/AbstractList", name := "listIterator", desc := "()Ljava/util/ListIterator;" } : Jvm.MethodName)) ∈ lw_all := lw_g (lw_at lw_m4 89 rfl) rfl
theorem q937 : (Jvm.Cond.selects "java/util/LinkedList" ({ cls := "java/util/AbstractList", name := "listIterator", desc := "(I)Ljava/util/ListIterator;" } : Jvm.MethodName) ({ cls := "java/util/LinkedList", name := "listIterator", desc := "(I)Ljava/util/ListIterator;" } : Jvm.MethodName)) ∈ lw_all := lw_g (lw_at lw_m4 95 rfl) rfl
theorem q938 : (Jvm.Cond.instanceMethod ({ cls := "java/util/LinkedList", name := "listIterator", desc := "(I)Ljava/util/ListIterator;" } : Jvm.MethodName)) ∈ lw_all := lw_g (lw_at lw_m4 96 rfl) rfl
theorem q939 : (Jvm.Cond.code ({ cls := "java/util/LinkedList", name := "listIterator", desc := "(I)Ljava/util/ListIterator;" } : Jvm.MethodName) prog_62_method_49_code (2 : Nat) (Option.some (Jvm.ClassFile.FieldType.object "java/util/ListIterator"))) ∈ lw_all := lw_g (lw_at lw_m4 97 rfl) rfl
theorem q940 : (Jvm.Cond.methodLink "java/util/LinkedList" (76 : Nat) ({ cls := "java/util/LinkedList", name := "checkPositionIndex", desc := "(I)V" } : Jvm.MethodName)) ∈ lw_all := lw_g (lw_at lw_m4 98 rfl) rfl
theorem q941 : (Jvm.Cond.privateMethod ({ cls := "java/util/LinkedList", name := "checkPositionIndex", desc := "(I)V" } : Jvm.MethodName)) ∈ lw_tbl := lw_at lw_m4 99 rfl
theorem q942 : (Jvm.Cond.instanceMethod ({ cls := "java/util/LinkedList", name := "checkPositionIndex", desc := "(I)V" } : Jvm.MethodName)) ∈ lw_all := lw_g (lw_at lw_m4 100 rfl) rfl
theorem q943 : (Jvm.Cond.code ({ cls := "java/util/LinkedList", name := "checkPositionIndex", desc := "(I)V" } : Jvm.MethodName) prog_62_method_30_code (2 : Nat) (Option.none : Option Jvm.ClassFile.FieldType)) ∈ lw_all := lw_g (lw_at lw_m4 101 rfl) rfl
theorem q944 : (Jvm.Cond.methodLink "java/util/LinkedList" (128 : Nat) ({ cls := "java/util/LinkedList", name := "isPositionIndex", desc := "(I)Z" } : Jvm.MethodName)) ∈ lw_all := lw_g (lw_at lw_m4 102 rfl) rfl
theorem q945 : (Jvm.Cond.privateMethod ({ cls := "java/util/LinkedList", name := "isPositionIndex", desc := "(I)Z" } : Jvm.MethodName)) ∈ lw_tbl := lw_at lw_m4 103 rfl
theorem q946 : (Jvm.Cond.instanceMethod ({ cls := "java/util/LinkedList", name := "isPositionIndex", desc := "(I)Z" } : Jvm.MethodName)) ∈ lw_all := lw_g (lw_at lw_m4 104 rfl) rfl
theorem q947 : (Jvm.Cond.code ({ cls := "java/util/LinkedList", name := "isPositionIndex", desc := "(I)Z" } : Jvm.MethodName) prog_62_method_27_code (2 : Nat) (Option.some Jvm.ClassFile.FieldType.boolean)) ∈ lw_all := lw_g (lw_at lw_m4 105 rfl) rfl
theorem q948 : (Jvm.Cond.classLink "java/util/LinkedList" (150 : Nat) "java/util/LinkedList$ListItr") ∈ lw_all := lw_g (lw_at lw_m4 106 rfl) rfl
theorem q950 : (Jvm.Cond.methodLink "java/util/LinkedList" (152 : Nat) ({ cls := "java/util/LinkedList$ListItr", name := "<init>", desc := "(Ljava/util/LinkedList;I)V" } : Jvm.MethodName)) ∈ lw_all := lw_g (lw_at lw_m4 108 rfl) rfl
theorem q985 : (Jvm.Cond.selects "java/util/LinkedList" ({ cls := "java/util/AbstractList", name := "size", desc := "()I" } : Jvm.MethodName) ({ cls := "java/util/LinkedList", name := "size", desc := "()I" } : Jvm.MethodName)) ∈ lw_all := lw_g (lw_at lw_m4 143 rfl) rfl
theorem q1015 : (Jvm.Cond.selects "java/util/LinkedList" ({ cls := "java/util/AbstractList", name := "get", desc := "(I)Ljava/lang/Object;" } : Jvm.MethodName) ({ cls := "java/util/LinkedList", name := "get", desc := "(I)Ljava/lang/Object;" } : Jvm.MethodName)) ∈ lw_all := lw_g (lw_at lw_m4 173 rfl) rfl
theorem q1216 : (Jvm.Cond.instanceMethod ({ cls := "java/util/LinkedList", name := "add", desc := "(Ljava/lang/Object;)Z" } : Jvm.MethodName)) ∈ lw_all := lw_g (lw_at lw_m5 134 rfl) rfl
theorem q1217 : (Jvm.Cond.selects "java/util/LinkedList" ({ cls := "java/util/LinkedList", name := "add", desc := "(Ljava/lang/Object;)Z" } : Jvm.MethodName) ({ cls := "java/util/LinkedList", name := "add", desc := "(Ljava/lang/Object;)Z" } : Jvm.MethodName)) ∈ lw_all := lw_g (lw_at lw_m5 135 rfl) rfl
theorem q1218 : (Jvm.Cond.code ({ cls := "java/util/LinkedList", name := "add", desc := "(Ljava/lang/Object;)Z" } : Jvm.MethodName) prog_62_method_17_code (2 : Nat) (Option.some Jvm.ClassFile.FieldType.boolean)) ∈ lw_all := lw_g (lw_at lw_m5 136 rfl) rfl
theorem q1219 : (Jvm.Cond.methodLink "java/util/LinkedList" (57 : Nat) ({ cls := "java/util/LinkedList", name := "linkLast", desc := "(Ljava/lang/Object;)V" } : Jvm.MethodName)) ∈ lw_all := lw_g (lw_at lw_m5 137 rfl) rfl
theorem q1220 : (Jvm.Cond.instanceMethod ({ cls := "java/util/LinkedList", name := "linkLast", desc := "(Ljava/lang/Object;)V" } : Jvm.MethodName)) ∈ lw_all := lw_g (lw_at lw_m5 138 rfl) rfl
theorem q1221 : (Jvm.Cond.selects "java/util/LinkedList" ({ cls := "java/util/LinkedList", name := "linkLast", desc := "(Ljava/lang/Object;)V" } : Jvm.MethodName) ({ cls := "java/util/LinkedList", name := "linkLast", desc := "(Ljava/lang/Object;)V" } : Jvm.MethodName)) ∈ lw_all := lw_g (lw_at lw_m5 139 rfl) rfl
theorem q1222 : (Jvm.Cond.code ({ cls := "java/util/LinkedList", name := "linkLast", desc := "(Ljava/lang/Object;)V" } : Jvm.MethodName) prog_62_method_4_code (4 : Nat) (Option.none : Option Jvm.ClassFile.FieldType)) ∈ lw_all := lw_g (lw_at lw_m5 140 rfl) rfl
theorem q1223 : (Jvm.Cond.classLink "java/util/LinkedList" (22 : Nat) "java/util/LinkedList$Node") ∈ lw_all := lw_g (lw_at lw_m5 141 rfl) rfl
theorem q1225 : (Jvm.Cond.methodLink "java/util/LinkedList" (24 : Nat) ({ cls := "java/util/LinkedList$Node", name := "<init>", desc := "(Ljava/util/LinkedList$Node;Ljava/lang/Object;Ljava/util/LinkedList$Node;)V" } : Jvm.MethodName)) ∈ lw_all := lw_g (lw_at lw_m5 143 rfl) rfl
theorem q1231 : (Jvm.Cond.fieldLink "java/util/LinkedList" (39 : Nat) "java/util/LinkedList$Node" "item" "Ljava/lang/Object;") ∈ lw_all := lw_g (lw_at lw_m5 149 rfl) rfl
theorem q1234 : (Jvm.Cond.fieldLink "java/util/LinkedList" (36 : Nat) "java/util/LinkedList$Node" "next" "Ljava/util/LinkedList$Node;") ∈ lw_all := lw_g (lw_at lw_m5 152 rfl) rfl
theorem q1236 : (Jvm.Cond.fieldLink "java/util/LinkedList" (30 : Nat) "java/util/LinkedList$Node" "prev" "Ljava/util/LinkedList$Node;") ∈ lw_all := lw_g (lw_at lw_m5 154 rfl) rfl
theorem q1550 : (Jvm.Cond.instanceMethod ({ cls := "java/util/LinkedList", name := "clear", desc := "()V" } : Jvm.MethodName)) ∈ lw_all := lw_g (lw_at lw_m6 228 rfl) rfl
theorem q1551 : (Jvm.Cond.selects "java/util/LinkedList" ({ cls := "java/util/LinkedList", name := "clear", desc := "()V" } : Jvm.MethodName) ({ cls := "java/util/LinkedList", name := "clear", desc := "()V" } : Jvm.MethodName)) ∈ lw_all := lw_g (lw_at lw_m6 229 rfl) rfl
theorem q1552 : (Jvm.Cond.code ({ cls := "java/util/LinkedList", name := "clear", desc := "()V" } : Jvm.MethodName) prog_62_method_21_code (3 : Nat) (Option.none : Option Jvm.ClassFile.FieldType)) ∈ lw_all := lw_g (lw_at lw_m6 230 rfl) rfl
theorem q1631 : (Jvm.Cond.castable "java/util/LinkedList" "java/util/List") ∈ lw_tbl := lw_at lw_m7 69 rfl
theorem q1632 : (Jvm.Cond.selects "java/util/LinkedList" ({ cls := "java/util/List", name := "get", desc := "(I)Ljava/lang/Object;" } : Jvm.MethodName) ({ cls := "java/util/LinkedList", name := "get", desc := "(I)Ljava/lang/Object;" } : Jvm.MethodName)) ∈ lw_all := lw_g (lw_at lw_m7 70 rfl) rfl
theorem q1633 : (Jvm.Cond.unhidden "java/util/LinkedList" "get" "(I)Ljava/lang/Object;") ∈ lw_tbl := lw_at lw_m7 71 rfl
theorem q1634 : (Jvm.Cond.publicMethod ({ cls := "java/util/LinkedList", name := "get", desc := "(I)Ljava/lang/Object;" } : Jvm.MethodName)) ∈ lw_tbl := lw_at lw_m7 72 rfl
theorem q1659 : (Jvm.Cond.instanceMethod ({ cls := "java/util/LinkedList", name := "removeFirst", desc := "()Ljava/lang/Object;" } : Jvm.MethodName)) ∈ lw_all := lw_g (lw_at lw_m7 97 rfl) rfl
theorem q1660 : (Jvm.Cond.selects "java/util/LinkedList" ({ cls := "java/util/LinkedList", name := "removeFirst", desc := "()Ljava/lang/Object;" } : Jvm.MethodName) ({ cls := "java/util/LinkedList", name := "removeFirst", desc := "()Ljava/lang/Object;" } : Jvm.MethodName)) ∈ lw_all := lw_g (lw_at lw_m7 98 rfl) rfl
theorem q1661 : (Jvm.Cond.code ({ cls := "java/util/LinkedList", name := "removeFirst", desc := "()Ljava/lang/Object;" } : Jvm.MethodName) prog_62_method_11_code (2 : Nat) (Option.some (Jvm.ClassFile.FieldType.object "java/lang/Object"))) ∈ lw_all := lw_g (lw_at lw_m7 99 rfl) rfl
theorem q1662 : (Jvm.Cond.classLink "java/util/LinkedList" (43 : Nat) "java/util/NoSuchElementException") ∈ lw_all := lw_g (lw_at lw_m7 100 rfl) rfl
theorem q1663 : (Jvm.Cond.methodLink "java/util/LinkedList" (45 : Nat) ({ cls := "java/util/NoSuchElementException", name := "<init>", desc := "()V" } : Jvm.MethodName)) ∈ lw_all := lw_g (lw_at lw_m7 101 rfl) rfl
theorem q1664 : (Jvm.Cond.methodLink "java/util/LinkedList" (46 : Nat) ({ cls := "java/util/LinkedList", name := "unlinkFirst", desc := "(Ljava/util/LinkedList$Node;)Ljava/lang/Object;" } : Jvm.MethodName)) ∈ lw_all := lw_g (lw_at lw_m7 102 rfl) rfl
theorem q1665 : (Jvm.Cond.privateMethod ({ cls := "java/util/LinkedList", name := "unlinkFirst", desc := "(Ljava/util/LinkedList$Node;)Ljava/lang/Object;" } : Jvm.MethodName)) ∈ lw_tbl := lw_at lw_m7 103 rfl
theorem q1666 : (Jvm.Cond.instanceMethod ({ cls := "java/util/LinkedList", name := "unlinkFirst", desc := "(Ljava/util/LinkedList$Node;)Ljava/lang/Object;" } : Jvm.MethodName)) ∈ lw_all := lw_g (lw_at lw_m7 104 rfl) rfl
theorem q1667 : (Jvm.Cond.code ({ cls := "java/util/LinkedList", name := "unlinkFirst", desc := "(Ljava/util/LinkedList$Node;)Ljava/lang/Object;" } : Jvm.MethodName) prog_62_method_6_code (4 : Nat) (Option.some (Jvm.ClassFile.FieldType.object "java/lang/Object"))) ∈ lw_all := lw_g (lw_at lw_m7 105 rfl) rfl
theorem q1776 : (Jvm.Cond.instanceMethod ({ cls := "java/util/LinkedList", name := "addLast", desc := "(Ljava/lang/Object;)V" } : Jvm.MethodName)) ∈ lw_all := lw_g (lw_at lw_m7 214 rfl) rfl
theorem q1777 : (Jvm.Cond.selects "java/util/LinkedList" ({ cls := "java/util/LinkedList", name := "addLast", desc := "(Ljava/lang/Object;)V" } : Jvm.MethodName) ({ cls := "java/util/LinkedList", name := "addLast", desc := "(Ljava/lang/Object;)V" } : Jvm.MethodName)) ∈ lw_all := lw_g (lw_at lw_m7 215 rfl) rfl
theorem q1778 : (Jvm.Cond.code ({ cls := "java/util/LinkedList", name := "addLast", desc := "(Ljava/lang/Object;)V" } : Jvm.MethodName) prog_62_method_14_code (2 : Nat) (Option.none : Option Jvm.ClassFile.FieldType)) ∈ lw_all := lw_g (lw_at lw_m7 216 rfl) rfl
theorem q2008 : (Jvm.Cond.selects "java/util/LinkedList" ({ cls := "java/util/AbstractList", name := "remove", desc := "(I)Ljava/lang/Object;" } : Jvm.MethodName) ({ cls := "java/util/LinkedList", name := "remove", desc := "(I)Ljava/lang/Object;" } : Jvm.MethodName)) ∈ lw_all := lw_g (lw_at lw_m8 206 rfl) rfl
theorem q2009 : (Jvm.Cond.instanceMethod ({ cls := "java/util/LinkedList", name := "remove", desc := "(I)Ljava/lang/Object;" } : Jvm.MethodName)) ∈ lw_all := lw_g (lw_at lw_m8 207 rfl) rfl
theorem q2010 : (Jvm.Cond.code ({ cls := "java/util/LinkedList", name := "remove", desc := "(I)Ljava/lang/Object;" } : Jvm.MethodName) prog_62_method_25_code (2 : Nat) (Option.some (Jvm.ClassFile.FieldType.object "java/lang/Object"))) ∈ lw_all := lw_g (lw_at lw_m8 208 rfl) rfl
theorem q2011 : (Jvm.Cond.methodLink "java/util/LinkedList" (64 : Nat) ({ cls := "java/util/LinkedList", name := "unlink", desc := "(Ljava/util/LinkedList$Node;)Ljava/lang/Object;" } : Jvm.MethodName)) ∈ lw_all := lw_g (lw_at lw_m8 209 rfl) rfl
theorem q2012 : (Jvm.Cond.instanceMethod ({ cls := "java/util/LinkedList", name := "unlink", desc := "(Ljava/util/LinkedList$Node;)Ljava/lang/Object;" } : Jvm.MethodName)) ∈ lw_all := lw_g (lw_at lw_m8 210 rfl) rfl
theorem q2013 : (Jvm.Cond.selects "java/util/LinkedList" ({ cls := "java/util/LinkedList", name := "unlink", desc := "(Ljava/util/LinkedList$Node;)Ljava/lang/Object;" } : Jvm.MethodName) ({ cls := "java/util/LinkedList", name := "unlink", desc := "(Ljava/util/LinkedList$Node;)Ljava/lang/Object;" } : Jvm.MethodName)) ∈ lw_all := lw_g (lw_at lw_m8 211 rfl) rfl
theorem q2014 : (Jvm.Cond.code ({ cls := "java/util/LinkedList", name := "unlink", desc := "(Ljava/util/LinkedList$Node;)Ljava/lang/Object;" } : Jvm.MethodName) prog_62_method_8_code (5 : Nat) (Option.some (Jvm.ClassFile.FieldType.object "java/lang/Object"))) ∈ lw_all := lw_g (lw_at lw_m8 212 rfl) rfl
theorem q2163 : (Jvm.Cond.selects "java/util/LinkedList" ({ cls := "java/util/List", name := "size", desc := "()I" } : Jvm.MethodName) ({ cls := "java/util/LinkedList", name := "size", desc := "()I" } : Jvm.MethodName)) ∈ lw_all := lw_g (lw_at lw_m9 121 rfl) rfl
theorem q2164 : (Jvm.Cond.unhidden "java/util/LinkedList" "size" "()I") ∈ lw_tbl := lw_at lw_m9 122 rfl
theorem q2165 : (Jvm.Cond.publicMethod ({ cls := "java/util/LinkedList", name := "size", desc := "()I" } : Jvm.MethodName)) ∈ lw_tbl := lw_at lw_m9 123 rfl
theorem q2294 : (Jvm.Cond.sameMethod "java/util/LinkedList" "java/util/AbstractCollection" "isEmpty" "()Z") ∈ lw_all := lw_g (lw_at lw_m10 12 rfl) rfl
theorem q2296 : (Jvm.Cond.selects "java/util/LinkedList" ({ cls := "java/util/LinkedList", name := "isEmpty", desc := "()Z" } : Jvm.MethodName) ({ cls := "java/util/AbstractCollection", name := "isEmpty", desc := "()Z" } : Jvm.MethodName)) ∈ lw_all := lw_g (lw_at lw_m10 14 rfl) rfl
theorem q2301 : (Jvm.Cond.instanceMethod ({ cls := "java/util/LinkedList", name := "removeLast", desc := "()Ljava/lang/Object;" } : Jvm.MethodName)) ∈ lw_all := lw_g (lw_at lw_m10 19 rfl) rfl
theorem q2302 : (Jvm.Cond.selects "java/util/LinkedList" ({ cls := "java/util/LinkedList", name := "removeLast", desc := "()Ljava/lang/Object;" } : Jvm.MethodName) ({ cls := "java/util/LinkedList", name := "removeLast", desc := "()Ljava/lang/Object;" } : Jvm.MethodName)) ∈ lw_all := lw_g (lw_at lw_m10 20 rfl) rfl
theorem q2303 : (Jvm.Cond.code ({ cls := "java/util/LinkedList", name := "removeLast", desc := "()Ljava/lang/Object;" } : Jvm.MethodName) prog_62_method_12_code (2 : Nat) (Option.some (Jvm.ClassFile.FieldType.object "java/lang/Object"))) ∈ lw_all := lw_g (lw_at lw_m10 21 rfl) rfl
theorem q2304 : (Jvm.Cond.methodLink "java/util/LinkedList" (50 : Nat) ({ cls := "java/util/LinkedList", name := "unlinkLast", desc := "(Ljava/util/LinkedList$Node;)Ljava/lang/Object;" } : Jvm.MethodName)) ∈ lw_all := lw_g (lw_at lw_m10 22 rfl) rfl
theorem q2305 : (Jvm.Cond.privateMethod ({ cls := "java/util/LinkedList", name := "unlinkLast", desc := "(Ljava/util/LinkedList$Node;)Ljava/lang/Object;" } : Jvm.MethodName)) ∈ lw_tbl := lw_at lw_m10 23 rfl
theorem q2306 : (Jvm.Cond.instanceMethod ({ cls := "java/util/LinkedList", name := "unlinkLast", desc := "(Ljava/util/LinkedList$Node;)Ljava/lang/Object;" } : Jvm.MethodName)) ∈ lw_all := lw_g (lw_at lw_m10 24 rfl) rfl
theorem q2307 : (Jvm.Cond.code ({ cls := "java/util/LinkedList", name := "unlinkLast", desc := "(Ljava/util/LinkedList$Node;)Ljava/lang/Object;" } : Jvm.MethodName) prog_62_method_7_code (4 : Nat) (Option.some (Jvm.ClassFile.FieldType.object "java/lang/Object"))) ∈ lw_all := lw_g (lw_at lw_m10 25 rfl) rfl
theorem q2962 : (Jvm.Cond.selects "java/util/LinkedList" ({ cls := "java/util/AbstractCollection", name := "size", desc := "()I" } : Jvm.MethodName) ({ cls := "java/util/LinkedList", name := "size", desc := "()I" } : Jvm.MethodName)) ∈ lw_all := lw_g (lw_at lw_m12 200 rfl) rfl
theorem q2975 : (Jvm.Cond.castable "java/util/LinkedList" "java/lang/Object") ∈ lw_tbl := lw_at lw_m12 213 rfl

abbrev cJ12_init : ByteArray := prog_47_method_3_code
def yJ12_init : MethodName := ⟨RJ12, "<init>", "()V"⟩
def dkwJ12_init_0 : List UInt8 := [42, 183, 0, 42, 42, 16, 17, 189, 0, 47, 181, 0, 3, 177]
abbrev dktJ12_init_0 : List UInt8 := dkwJ12_init_0 ++ []
theorem dksJ12_init_0 : cJ12_init.data.toList.drop 0 = dktJ12_init_0 := by decide +kernel
theorem dJ12_init_0 : decode cJ12_init 0 = .ok (.aload_n 0, 1) := dk_42 (dk_at dksJ12_init_0 0 rfl rfl)
theorem dJ12_init_1 : decode cJ12_init 1 = .ok (.invokespecial 42, 3) := dk_183 0 42 (dk_at dksJ12_init_0 1 rfl rfl)
theorem dJ12_init_4 : decode cJ12_init 4 = .ok (.aload_n 0, 1) := dk_42 (dk_at dksJ12_init_0 4 rfl rfl)
theorem dJ12_init_5 : decode cJ12_init 5 = .ok (.bipush 17, 2) := dk_16 17 (dk_at dksJ12_init_0 5 rfl rfl)
theorem dJ12_init_7 : decode cJ12_init 7 = .ok (.anewarray 47, 3) := dk_189 0 47 (dk_at dksJ12_init_0 7 rfl rfl)
theorem dJ12_init_10 : decode cJ12_init 10 = .ok (.putfield 3, 3) := dk_181 0 3 (dk_at dksJ12_init_0 10 rfl rfl)
theorem dJ12_init_13 : decode cJ12_init 13 = .ok (.return_, 1) := dk_177 (dk_at dksJ12_init_0 13 rfl rfl)
abbrev cJ12_nonNullElementAt : ByteArray := prog_47_method_11_code
def yJ12_nonNullElementAt : MethodName := ⟨RJ12, "nonNullElementAt", "([Ljava/lang/Object;I)Ljava/lang/Object;"⟩
def dkwJ12_nonNullElementAt_0 : List UInt8 := [42, 27, 50, 77, 44, 199, 0, 11, 187, 0, 62, 89, 183, 0, 64, 191, 44, 176]
abbrev dktJ12_nonNullElementAt_0 : List UInt8 := dkwJ12_nonNullElementAt_0 ++ []
theorem dksJ12_nonNullElementAt_0 : cJ12_nonNullElementAt.data.toList.drop 0 = dktJ12_nonNullElementAt_0 := by decide +kernel
theorem dJ12_nonNullElementAt_0 : decode cJ12_nonNullElementAt 0 = .ok (.aload_n 0, 1) := dk_42 (dk_at dksJ12_nonNullElementAt_0 0 rfl rfl)
theorem dJ12_nonNullElementAt_1 : decode cJ12_nonNullElementAt 1 = .ok (.iload_n 1, 1) := dk_27 (dk_at dksJ12_nonNullElementAt_0 1 rfl rfl)
theorem dJ12_nonNullElementAt_2 : decode cJ12_nonNullElementAt 2 = .ok (.aaload, 1) := dk_50 (dk_at dksJ12_nonNullElementAt_0 2 rfl rfl)
theorem dJ12_nonNullElementAt_3 : decode cJ12_nonNullElementAt 3 = .ok (.astore_n 2, 1) := dk_77 (dk_at dksJ12_nonNullElementAt_0 3 rfl rfl)
theorem dJ12_nonNullElementAt_4 : decode cJ12_nonNullElementAt 4 = .ok (.aload_n 2, 1) := dk_44 (dk_at dksJ12_nonNullElementAt_0 4 rfl rfl)
theorem dJ12_nonNullElementAt_5 : decode cJ12_nonNullElementAt 5 = .ok (.ifnonnull 11, 3) := dk_199 0 11 (dk_at dksJ12_nonNullElementAt_0 5 rfl rfl)
theorem dJ12_nonNullElementAt_8 : decode cJ12_nonNullElementAt 8 = .ok (.new 62, 3) := dk_187 0 62 (dk_at dksJ12_nonNullElementAt_0 8 rfl rfl)
theorem dJ12_nonNullElementAt_11 : decode cJ12_nonNullElementAt 11 = .ok (.dup, 1) := dk_89 (dk_at dksJ12_nonNullElementAt_0 11 rfl rfl)
theorem dJ12_nonNullElementAt_12 : decode cJ12_nonNullElementAt 12 = .ok (.invokespecial 64, 3) := dk_183 0 64 (dk_at dksJ12_nonNullElementAt_0 12 rfl rfl)
theorem dJ12_nonNullElementAt_15 : decode cJ12_nonNullElementAt 15 = .ok (.athrow, 1) := dk_191 (dk_at dksJ12_nonNullElementAt_0 15 rfl rfl)
theorem dJ12_nonNullElementAt_16 : decode cJ12_nonNullElementAt 16 = .ok (.aload_n 2, 1) := dk_44 (dk_at dksJ12_nonNullElementAt_0 16 rfl rfl)
theorem dJ12_nonNullElementAt_17 : decode cJ12_nonNullElementAt 17 = .ok (.areturn, 1) := dk_176 (dk_at dksJ12_nonNullElementAt_0 17 rfl rfl)
abbrev cJ12_inc : ByteArray := prog_47_method_6_code
def yJ12_inc : MethodName := ⟨RJ12, "inc", "(II)I"⟩
def dkwJ12_inc_0 : List UInt8 := [132, 0, 1, 26, 27, 161, 0, 5, 3, 59, 26, 172]
abbrev dktJ12_inc_0 : List UInt8 := dkwJ12_inc_0 ++ []
theorem dksJ12_inc_0 : cJ12_inc.data.toList.drop 0 = dktJ12_inc_0 := by decide +kernel
theorem dJ12_inc_0 : decode cJ12_inc 0 = .ok (.iinc 0 1, 3) := dk_132 0 1 (dk_at dksJ12_inc_0 0 rfl rfl)
theorem dJ12_inc_3 : decode cJ12_inc 3 = .ok (.iload_n 0, 1) := dk_26 (dk_at dksJ12_inc_0 3 rfl rfl)
theorem dJ12_inc_4 : decode cJ12_inc 4 = .ok (.iload_n 1, 1) := dk_27 (dk_at dksJ12_inc_0 4 rfl rfl)
theorem dJ12_inc_5 : decode cJ12_inc 5 = .ok (.if_icmp .lt 5, 3) := dk_161 0 5 (dk_at dksJ12_inc_0 5 rfl rfl)
theorem dJ12_inc_8 : decode cJ12_inc 8 = .ok (.iconst 0, 1) := dk_3 (dk_at dksJ12_inc_0 8 rfl rfl)
theorem dJ12_inc_9 : decode cJ12_inc 9 = .ok (.istore_n 0, 1) := dk_59 (dk_at dksJ12_inc_0 9 rfl rfl)
theorem dJ12_inc_10 : decode cJ12_inc 10 = .ok (.iload_n 0, 1) := dk_26 (dk_at dksJ12_inc_0 10 rfl rfl)
theorem dJ12_inc_11 : decode cJ12_inc 11 = .ok (.ireturn, 1) := dk_172 (dk_at dksJ12_inc_0 11 rfl rfl)
abbrev cJ12_clear : ByteArray := prog_47_method_53_code
def yJ12_clear : MethodName := ⟨RJ12, "clear", "()V"⟩
def dkwJ12_clear_1 : List UInt8 := [181, 0, 24, 177]
abbrev dktJ12_clear_1 : List UInt8 := dkwJ12_clear_1 ++ []
def dkwJ12_clear_0 : List UInt8 := [42, 180, 0, 3, 42, 180, 0, 24, 42, 180, 0, 20, 184, 0, 181, 42, 42, 3, 90, 181, 0, 20]
abbrev dktJ12_clear_0 : List UInt8 := dkwJ12_clear_0 ++ dktJ12_clear_1
theorem dksJ12_clear_0 : cJ12_clear.data.toList.drop 0 = dktJ12_clear_0 := by decide +kernel
theorem dksJ12_clear_1 : cJ12_clear.data.toList.drop 22 = dktJ12_clear_1 := dk_seg dksJ12_clear_0 22 rfl rfl
theorem dJ12_clear_0 : decode cJ12_clear 0 = .ok (.aload_n 0, 1) := dk_42 (dk_at dksJ12_clear_0 0 rfl rfl)
theorem dJ12_clear_1 : decode cJ12_clear 1 = .ok (.getfield 3, 3) := dk_180 0 3 (dk_at dksJ12_clear_0 1 rfl rfl)
theorem dJ12_clear_4 : decode cJ12_clear 4 = .ok (.aload_n 0, 1) := dk_42 (dk_at dksJ12_clear_0 4 rfl rfl)
theorem dJ12_clear_5 : decode cJ12_clear 5 = .ok (.getfield 24, 3) := dk_180 0 24 (dk_at dksJ12_clear_0 5 rfl rfl)
theorem dJ12_clear_8 : decode cJ12_clear 8 = .ok (.aload_n 0, 1) := dk_42 (dk_at dksJ12_clear_0 8 rfl rfl)
theorem dJ12_clear_9 : decode cJ12_clear 9 = .ok (.getfield 20, 3) := dk_180 0 20 (dk_at dksJ12_clear_0 9 rfl rfl)
theorem dJ12_clear_12 : decode cJ12_clear 12 = .ok (.invokestatic 181, 3) := dk_184 0 181 (dk_at dksJ12_clear_0 12 rfl rfl)
theorem dJ12_clear_15 : decode cJ12_clear 15 = .ok (.aload_n 0, 1) := dk_42 (dk_at dksJ12_clear_0 15 rfl rfl)
theorem dJ12_clear_16 : decode cJ12_clear 16 = .ok (.aload_n 0, 1) := dk_42 (dk_at dksJ12_clear_0 16 rfl rfl)
theorem dJ12_clear_17 : decode cJ12_clear 17 = .ok (.iconst 0, 1) := dk_3 (dk_at dksJ12_clear_0 17 rfl rfl)
theorem dJ12_clear_18 : decode cJ12_clear 18 = .ok (.dup_x1, 1) := dk_90 (dk_at dksJ12_clear_0 18 rfl rfl)
theorem dJ12_clear_19 : decode cJ12_clear 19 = .ok (.putfield 20, 3) := dk_181 0 20 (dk_at dksJ12_clear_0 19 rfl rfl)
theorem dJ12_clear_22 : decode cJ12_clear 22 = .ok (.putfield 24, 3) := dk_181 0 24 (dk_at dksJ12_clear_1 0 rfl rfl)
theorem dJ12_clear_25 : decode cJ12_clear 25 = .ok (.return_, 1) := dk_177 (dk_at dksJ12_clear_1 3 rfl rfl)
abbrev cJ12_circularClear : ByteArray := prog_47_method_54_code
def yJ12_circularClear : MethodName := ⟨RJ12, "circularClear", "([Ljava/lang/Object;II)V"⟩
def dkwJ12_circularClear_1 : List UInt8 := [167, 255, 244, 29, 28, 160, 0, 6, 167, 0, 10, 3, 60, 28, 62, 167, 255, 229, 177]
abbrev dktJ12_circularClear_1 : List UInt8 := dkwJ12_circularClear_1 ++ []
def dkwJ12_circularClear_0 : List UInt8 := [27, 28, 163, 0, 7, 28, 167, 0, 5, 42, 190, 62, 27, 29, 162, 0, 13, 42, 27, 1, 83, 132, 1, 1]
abbrev dktJ12_circularClear_0 : List UInt8 := dkwJ12_circularClear_0 ++ dktJ12_circularClear_1
theorem dksJ12_circularClear_0 : cJ12_circularClear.data.toList.drop 0 = dktJ12_circularClear_0 := by decide +kernel
theorem dksJ12_circularClear_1 : cJ12_circularClear.data.toList.drop 24 = dktJ12_circularClear_1 := dk_seg dksJ12_circularClear_0 24 rfl rfl
theorem dJ12_circularClear_0 : decode cJ12_circularClear 0 = .ok (.iload_n 1, 1) := dk_27 (dk_at dksJ12_circularClear_0 0 rfl rfl)
theorem dJ12_circularClear_1 : decode cJ12_circularClear 1 = .ok (.iload_n 2, 1) := dk_28 (dk_at dksJ12_circularClear_0 1 rfl rfl)
theorem dJ12_circularClear_2 : decode cJ12_circularClear 2 = .ok (.if_icmp .gt 7, 3) := dk_163 0 7 (dk_at dksJ12_circularClear_0 2 rfl rfl)
theorem dJ12_circularClear_5 : decode cJ12_circularClear 5 = .ok (.iload_n 2, 1) := dk_28 (dk_at dksJ12_circularClear_0 5 rfl rfl)
theorem dJ12_circularClear_6 : decode cJ12_circularClear 6 = .ok (.goto 5, 3) := dk_167 0 5 (dk_at dksJ12_circularClear_0 6 rfl rfl)
theorem dJ12_circularClear_9 : decode cJ12_circularClear 9 = .ok (.aload_n 0, 1) := dk_42 (dk_at dksJ12_circularClear_0 9 rfl rfl)
theorem dJ12_circularClear_10 : decode cJ12_circularClear 10 = .ok (.arraylength, 1) := dk_190 (dk_at dksJ12_circularClear_0 10 rfl rfl)
theorem dJ12_circularClear_11 : decode cJ12_circularClear 11 = .ok (.istore_n 3, 1) := dk_62 (dk_at dksJ12_circularClear_0 11 rfl rfl)
theorem dJ12_circularClear_12 : decode cJ12_circularClear 12 = .ok (.iload_n 1, 1) := dk_27 (dk_at dksJ12_circularClear_0 12 rfl rfl)
theorem dJ12_circularClear_13 : decode cJ12_circularClear 13 = .ok (.iload_n 3, 1) := dk_29 (dk_at dksJ12_circularClear_0 13 rfl rfl)
theorem dJ12_circularClear_14 : decode cJ12_circularClear 14 = .ok (.if_icmp .ge 13, 3) := dk_162 0 13 (dk_at dksJ12_circularClear_0 14 rfl rfl)
theorem dJ12_circularClear_17 : decode cJ12_circularClear 17 = .ok (.aload_n 0, 1) := dk_42 (dk_at dksJ12_circularClear_0 17 rfl rfl)
theorem dJ12_circularClear_18 : decode cJ12_circularClear 18 = .ok (.iload_n 1, 1) := dk_27 (dk_at dksJ12_circularClear_0 18 rfl rfl)
theorem dJ12_circularClear_19 : decode cJ12_circularClear 19 = .ok (.aconst_null, 1) := dk_1 (dk_at dksJ12_circularClear_0 19 rfl rfl)
theorem dJ12_circularClear_20 : decode cJ12_circularClear 20 = .ok (.aastore, 1) := dk_83 (dk_at dksJ12_circularClear_0 20 rfl rfl)
theorem dJ12_circularClear_21 : decode cJ12_circularClear 21 = .ok (.iinc 1 1, 3) := dk_132 1 1 (dk_at dksJ12_circularClear_0 21 rfl rfl)
theorem dJ12_circularClear_24 : decode cJ12_circularClear 24 = .ok (.goto (-12), 3) := dk_167 255 244 (dk_at dksJ12_circularClear_1 0 rfl rfl)
theorem dJ12_circularClear_27 : decode cJ12_circularClear 27 = .ok (.iload_n 3, 1) := dk_29 (dk_at dksJ12_circularClear_1 3 rfl rfl)
theorem dJ12_circularClear_28 : decode cJ12_circularClear 28 = .ok (.iload_n 2, 1) := dk_28 (dk_at dksJ12_circularClear_1 4 rfl rfl)
theorem dJ12_circularClear_29 : decode cJ12_circularClear 29 = .ok (.if_icmp .ne 6, 3) := dk_160 0 6 (dk_at dksJ12_circularClear_1 5 rfl rfl)
theorem dJ12_circularClear_32 : decode cJ12_circularClear 32 = .ok (.goto 10, 3) := dk_167 0 10 (dk_at dksJ12_circularClear_1 8 rfl rfl)
theorem dJ12_circularClear_35 : decode cJ12_circularClear 35 = .ok (.iconst 0, 1) := dk_3 (dk_at dksJ12_circularClear_1 11 rfl rfl)
theorem dJ12_circularClear_36 : decode cJ12_circularClear 36 = .ok (.istore_n 1, 1) := dk_60 (dk_at dksJ12_circularClear_1 12 rfl rfl)
theorem dJ12_circularClear_37 : decode cJ12_circularClear 37 = .ok (.iload_n 2, 1) := dk_28 (dk_at dksJ12_circularClear_1 13 rfl rfl)
theorem dJ12_circularClear_38 : decode cJ12_circularClear 38 = .ok (.istore_n 3, 1) := dk_62 (dk_at dksJ12_circularClear_1 14 rfl rfl)
theorem dJ12_circularClear_39 : decode cJ12_circularClear 39 = .ok (.goto (-27), 3) := dk_167 255 229 (dk_at dksJ12_circularClear_1 15 rfl rfl)
theorem dJ12_circularClear_42 : decode cJ12_circularClear 42 = .ok (.return_, 1) := dk_177 (dk_at dksJ12_circularClear_1 18 rfl rfl)
abbrev cJ12_iterator : ByteArray := prog_47_method_39_code
def yJ12_iterator : MethodName := ⟨RJ12, "iterator", "()Ljava/util/Iterator;"⟩
def dkwJ12_iterator_0 : List UInt8 := [187, 0, 131, 89, 42, 183, 0, 133, 176]
abbrev dktJ12_iterator_0 : List UInt8 := dkwJ12_iterator_0 ++ []
theorem dksJ12_iterator_0 : cJ12_iterator.data.toList.drop 0 = dktJ12_iterator_0 := by decide +kernel
theorem dJ12_iterator_0 : decode cJ12_iterator 0 = .ok (.new 131, 3) := dk_187 0 131 (dk_at dksJ12_iterator_0 0 rfl rfl)
theorem dJ12_iterator_3 : decode cJ12_iterator 3 = .ok (.dup, 1) := dk_89 (dk_at dksJ12_iterator_0 3 rfl rfl)
theorem dJ12_iterator_4 : decode cJ12_iterator 4 = .ok (.aload_n 0, 1) := dk_42 (dk_at dksJ12_iterator_0 4 rfl rfl)
theorem dJ12_iterator_5 : decode cJ12_iterator 5 = .ok (.invokespecial 133, 3) := dk_183 0 133 (dk_at dksJ12_iterator_0 5 rfl rfl)
theorem dJ12_iterator_8 : decode cJ12_iterator 8 = .ok (.areturn, 1) := dk_176 (dk_at dksJ12_iterator_0 8 rfl rfl)
abbrev cJ12_size : ByteArray := prog_47_method_37_code
def yJ12_size : MethodName := ⟨RJ12, "size", "()I"⟩
def dkwJ12_size_0 : List UInt8 := [42, 180, 0, 20, 42, 180, 0, 24, 42, 180, 0, 3, 190, 184, 0, 127, 172]
abbrev dktJ12_size_0 : List UInt8 := dkwJ12_size_0 ++ []
theorem dksJ12_size_0 : cJ12_size.data.toList.drop 0 = dktJ12_size_0 := by decide +kernel
theorem dJ12_size_0 : decode cJ12_size 0 = .ok (.aload_n 0, 1) := dk_42 (dk_at dksJ12_size_0 0 rfl rfl)
theorem dJ12_size_1 : decode cJ12_size 1 = .ok (.getfield 20, 3) := dk_180 0 20 (dk_at dksJ12_size_0 1 rfl rfl)
theorem dJ12_size_4 : decode cJ12_size 4 = .ok (.aload_n 0, 1) := dk_42 (dk_at dksJ12_size_0 4 rfl rfl)
theorem dJ12_size_5 : decode cJ12_size 5 = .ok (.getfield 24, 3) := dk_180 0 24 (dk_at dksJ12_size_0 5 rfl rfl)
theorem dJ12_size_8 : decode cJ12_size 8 = .ok (.aload_n 0, 1) := dk_42 (dk_at dksJ12_size_0 8 rfl rfl)
theorem dJ12_size_9 : decode cJ12_size 9 = .ok (.getfield 3, 3) := dk_180 0 3 (dk_at dksJ12_size_0 9 rfl rfl)
theorem dJ12_size_12 : decode cJ12_size 12 = .ok (.arraylength, 1) := dk_190 (dk_at dksJ12_size_0 12 rfl rfl)
theorem dJ12_size_13 : decode cJ12_size 13 = .ok (.invokestatic 127, 3) := dk_184 0 127 (dk_at dksJ12_size_0 13 rfl rfl)
theorem dJ12_size_16 : decode cJ12_size 16 = .ok (.ireturn, 1) := dk_172 (dk_at dksJ12_size_0 16 rfl rfl)
abbrev cJ12_sub : ByteArray := prog_47_method_9_code
def yJ12_sub : MethodName := ⟨RJ12, "sub", "(III)I"⟩
def dkwJ12_sub_0 : List UInt8 := [26, 27, 100, 89, 59, 156, 0, 7, 26, 28, 96, 59, 26, 172]
abbrev dktJ12_sub_0 : List UInt8 := dkwJ12_sub_0 ++ []
theorem dksJ12_sub_0 : cJ12_sub.data.toList.drop 0 = dktJ12_sub_0 := by decide +kernel
theorem dJ12_sub_0 : decode cJ12_sub 0 = .ok (.iload_n 0, 1) := dk_26 (dk_at dksJ12_sub_0 0 rfl rfl)
theorem dJ12_sub_1 : decode cJ12_sub 1 = .ok (.iload_n 1, 1) := dk_27 (dk_at dksJ12_sub_0 1 rfl rfl)
theorem dJ12_sub_2 : decode cJ12_sub 2 = .ok (.isub, 1) := dk_100 (dk_at dksJ12_sub_0 2 rfl rfl)
theorem dJ12_sub_3 : decode cJ12_sub 3 = .ok (.dup, 1) := dk_89 (dk_at dksJ12_sub_0 3 rfl rfl)
theorem dJ12_sub_4 : decode cJ12_sub 4 = .ok (.istore_n 0, 1) := dk_59 (dk_at dksJ12_sub_0 4 rfl rfl)
theorem dJ12_sub_5 : decode cJ12_sub 5 = .ok (.ifCond .ge 7, 3) := dk_156 0 7 (dk_at dksJ12_sub_0 5 rfl rfl)
theorem dJ12_sub_8 : decode cJ12_sub 8 = .ok (.iload_n 0, 1) := dk_26 (dk_at dksJ12_sub_0 8 rfl rfl)
theorem dJ12_sub_9 : decode cJ12_sub 9 = .ok (.iload_n 2, 1) := dk_28 (dk_at dksJ12_sub_0 9 rfl rfl)
theorem dJ12_sub_10 : decode cJ12_sub 10 = .ok (.iadd, 1) := dk_96 (dk_at dksJ12_sub_0 10 rfl rfl)
theorem dJ12_sub_11 : decode cJ12_sub 11 = .ok (.istore_n 0, 1) := dk_59 (dk_at dksJ12_sub_0 11 rfl rfl)
theorem dJ12_sub_12 : decode cJ12_sub 12 = .ok (.iload_n 0, 1) := dk_26 (dk_at dksJ12_sub_0 12 rfl rfl)
theorem dJ12_sub_13 : decode cJ12_sub 13 = .ok (.ireturn, 1) := dk_172 (dk_at dksJ12_sub_0 13 rfl rfl)
abbrev cJ12_addLast : ByteArray := prog_47_method_13_code
def yJ12_addLast : MethodName := ⟨RJ12, "addLast", "(Ljava/lang/Object;)V"⟩
def dkwJ12_addLast_2 : List UInt8 := [182, 0, 71, 177]
abbrev dktJ12_addLast_2 : List UInt8 := dkwJ12_addLast_2 ++ []
def dkwJ12_addLast_1 : List UInt8 := [42, 180, 0, 24, 42, 42, 180, 0, 20, 44, 190, 184, 0, 74, 90, 181, 0, 20, 160, 0, 8, 42, 4]
abbrev dktJ12_addLast_1 : List UInt8 := dkwJ12_addLast_1 ++ dktJ12_addLast_2
def dkwJ12_addLast_0 : List UInt8 := [43, 199, 0, 11, 187, 0, 65, 89, 183, 0, 67, 191, 42, 180, 0, 3, 77, 44, 42, 180, 0, 20, 43, 83]
abbrev dktJ12_addLast_0 : List UInt8 := dkwJ12_addLast_0 ++ dktJ12_addLast_1
theorem dksJ12_addLast_0 : cJ12_addLast.data.toList.drop 0 = dktJ12_addLast_0 := by decide +kernel
theorem dksJ12_addLast_1 : cJ12_addLast.data.toList.drop 24 = dktJ12_addLast_1 := dk_seg dksJ12_addLast_0 24 rfl rfl
theorem dksJ12_addLast_2 : cJ12_addLast.data.toList.drop 47 = dktJ12_addLast_2 := dk_seg dksJ12_addLast_1 23 rfl rfl
theorem dJ12_addLast_0 : decode cJ12_addLast 0 = .ok (.aload_n 1, 1) := dk_43 (dk_at dksJ12_addLast_0 0 rfl rfl)
theorem dJ12_addLast_1 : decode cJ12_addLast 1 = .ok (.ifnonnull 11, 3) := dk_199 0 11 (dk_at dksJ12_addLast_0 1 rfl rfl)
theorem dJ12_addLast_4 : decode cJ12_addLast 4 = .ok (.new 65, 3) := dk_187 0 65 (dk_at dksJ12_addLast_0 4 rfl rfl)
theorem dJ12_addLast_7 : decode cJ12_addLast 7 = .ok (.dup, 1) := dk_89 (dk_at dksJ12_addLast_0 7 rfl rfl)
theorem dJ12_addLast_8 : decode cJ12_addLast 8 = .ok (.invokespecial 67, 3) := dk_183 0 67 (dk_at dksJ12_addLast_0 8 rfl rfl)
theorem dJ12_addLast_11 : decode cJ12_addLast 11 = .ok (.athrow, 1) := dk_191 (dk_at dksJ12_addLast_0 11 rfl rfl)
theorem dJ12_addLast_12 : decode cJ12_addLast 12 = .ok (.aload_n 0, 1) := dk_42 (dk_at dksJ12_addLast_0 12 rfl rfl)
theorem dJ12_addLast_13 : decode cJ12_addLast 13 = .ok (.getfield 3, 3) := dk_180 0 3 (dk_at dksJ12_addLast_0 13 rfl rfl)
theorem dJ12_addLast_16 : decode cJ12_addLast 16 = .ok (.astore_n 2, 1) := dk_77 (dk_at dksJ12_addLast_0 16 rfl rfl)
theorem dJ12_addLast_17 : decode cJ12_addLast 17 = .ok (.aload_n 2, 1) := dk_44 (dk_at dksJ12_addLast_0 17 rfl rfl)
theorem dJ12_addLast_18 : decode cJ12_addLast 18 = .ok (.aload_n 0, 1) := dk_42 (dk_at dksJ12_addLast_0 18 rfl rfl)
theorem dJ12_addLast_19 : decode cJ12_addLast 19 = .ok (.getfield 20, 3) := dk_180 0 20 (dk_at dksJ12_addLast_0 19 rfl rfl)
theorem dJ12_addLast_22 : decode cJ12_addLast 22 = .ok (.aload_n 1, 1) := dk_43 (dk_at dksJ12_addLast_0 22 rfl rfl)
theorem dJ12_addLast_23 : decode cJ12_addLast 23 = .ok (.aastore, 1) := dk_83 (dk_at dksJ12_addLast_0 23 rfl rfl)
theorem dJ12_addLast_24 : decode cJ12_addLast 24 = .ok (.aload_n 0, 1) := dk_42 (dk_at dksJ12_addLast_1 0 rfl rfl)
theorem dJ12_addLast_25 : decode cJ12_addLast 25 = .ok (.getfield 24, 3) := dk_180 0 24 (dk_at dksJ12_addLast_1 1 rfl rfl)
theorem dJ12_addLast_28 : decode cJ12_addLast 28 = .ok (.aload_n 0, 1) := dk_42 (dk_at dksJ12_addLast_1 4 rfl rfl)
theorem dJ12_addLast_29 : decode cJ12_addLast 29 = .ok (.aload_n 0, 1) := dk_42 (dk_at dksJ12_addLast_1 5 rfl rfl)
theorem dJ12_addLast_30 : decode cJ12_addLast 30 = .ok (.getfield 20, 3) := dk_180 0 20 (dk_at dksJ12_addLast_1 6 rfl rfl)
theorem dJ12_addLast_33 : decode cJ12_addLast 33 = .ok (.aload_n 2, 1) := dk_44 (dk_at dksJ12_addLast_1 9 rfl rfl)
theorem dJ12_addLast_34 : decode cJ12_addLast 34 = .ok (.arraylength, 1) := dk_190 (dk_at dksJ12_addLast_1 10 rfl rfl)
theorem dJ12_addLast_35 : decode cJ12_addLast 35 = .ok (.invokestatic 74, 3) := dk_184 0 74 (dk_at dksJ12_addLast_1 11 rfl rfl)
theorem dJ12_addLast_38 : decode cJ12_addLast 38 = .ok (.dup_x1, 1) := dk_90 (dk_at dksJ12_addLast_1 14 rfl rfl)
theorem dJ12_addLast_39 : decode cJ12_addLast 39 = .ok (.putfield 20, 3) := dk_181 0 20 (dk_at dksJ12_addLast_1 15 rfl rfl)
theorem dJ12_addLast_42 : decode cJ12_addLast 42 = .ok (.if_icmp .ne 8, 3) := dk_160 0 8 (dk_at dksJ12_addLast_1 18 rfl rfl)
theorem dJ12_addLast_45 : decode cJ12_addLast 45 = .ok (.aload_n 0, 1) := dk_42 (dk_at dksJ12_addLast_1 21 rfl rfl)
theorem dJ12_addLast_46 : decode cJ12_addLast 46 = .ok (.iconst 1, 1) := dk_4 (dk_at dksJ12_addLast_1 22 rfl rfl)
theorem dJ12_addLast_47 : decode cJ12_addLast 47 = .ok (.invokevirtual 71, 3) := dk_182 0 71 (dk_at dksJ12_addLast_2 0 rfl rfl)
theorem dJ12_addLast_50 : decode cJ12_addLast 50 = .ok (.return_, 1) := dk_177 (dk_at dksJ12_addLast_2 3 rfl rfl)
abbrev cJ12_grow : ByteArray := prog_47_method_1_code
def yJ12_grow : MethodName := ⟨RJ12, "grow", "(I)V"⟩
def dkwJ12_grow_7 : List UInt8 := [177]
abbrev dktJ12_grow_7 : List UInt8 := dkwJ12_grow_7 ++ []
def dkwJ12_grow_6 : List UInt8 := [181, 0, 24, 54, 8, 21, 7, 21, 8, 162, 0, 15, 25, 5, 21, 7, 1, 83, 132, 7, 1, 167, 255, 240]
abbrev dktJ12_grow_6 : List UInt8 := dkwJ12_grow_6 ++ dktJ12_grow_7
def dkwJ12_grow_5 : List UInt8 := [42, 180, 0, 24, 100, 184, 0, 27, 42, 180, 0, 24, 54, 7, 42, 89, 180, 0, 24, 21, 6, 96, 90]
abbrev dktJ12_grow_5 : List UInt8 := dkwJ12_grow_5 ++ dktJ12_grow_6
def dkwJ12_grow_4 : List UInt8 := [198, 0, 71, 29, 28, 100, 54, 6, 25, 5, 42, 180, 0, 24, 25, 5, 42, 180, 0, 24, 21, 6, 96, 28]
abbrev dktJ12_grow_4 : List UInt8 := dkwJ12_grow_4 ++ dktJ12_grow_5
def dkwJ12_grow_3 : List UInt8 := [180, 0, 24, 161, 0, 24, 42, 180, 0, 20, 42, 180, 0, 24, 160, 0, 81, 25, 5, 42, 180, 0, 24, 50]
abbrev dktJ12_grow_3 : List UInt8 := dkwJ12_grow_3 ++ dktJ12_grow_4
def dkwJ12_grow_2 : List UInt8 := [182, 0, 10, 62, 42, 42, 180, 0, 3, 29, 184, 0, 14, 90, 181, 0, 3, 58, 5, 42, 180, 0, 20, 42]
abbrev dktJ12_grow_2 : List UInt8 := dkwJ12_grow_2 ++ dktJ12_grow_3
def dkwJ12_grow_1 : List UInt8 := [21, 4, 27, 161, 0, 15, 28, 21, 4, 96, 89, 62, 18, 9, 100, 158, 0, 11, 42, 27, 21, 4]
abbrev dktJ12_grow_1 : List UInt8 := dkwJ12_grow_1 ++ dktJ12_grow_2
def dkwJ12_grow_0 : List UInt8 := [42, 180, 0, 3, 190, 61, 28, 16, 64, 162, 0, 9, 28, 5, 96, 167, 0, 6, 28, 4, 122, 54, 4]
abbrev dktJ12_grow_0 : List UInt8 := dkwJ12_grow_0 ++ dktJ12_grow_1
theorem dksJ12_grow_0 : cJ12_grow.data.toList.drop 0 = dktJ12_grow_0 := by decide +kernel
theorem dksJ12_grow_1 : cJ12_grow.data.toList.drop 23 = dktJ12_grow_1 := dk_seg dksJ12_grow_0 23 rfl rfl
theorem dksJ12_grow_2 : cJ12_grow.data.toList.drop 45 = dktJ12_grow_2 := dk_seg dksJ12_grow_1 22 rfl rfl
theorem dksJ12_grow_3 : cJ12_grow.data.toList.drop 69 = dktJ12_grow_3 := dk_seg dksJ12_grow_2 24 rfl rfl
theorem dksJ12_grow_4 : cJ12_grow.data.toList.drop 93 = dktJ12_grow_4 := dk_seg dksJ12_grow_3 24 rfl rfl
theorem dksJ12_grow_5 : cJ12_grow.data.toList.drop 117 = dktJ12_grow_5 := dk_seg dksJ12_grow_4 24 rfl rfl
theorem dksJ12_grow_6 : cJ12_grow.data.toList.drop 140 = dktJ12_grow_6 := dk_seg dksJ12_grow_5 23 rfl rfl
theorem dksJ12_grow_7 : cJ12_grow.data.toList.drop 164 = dktJ12_grow_7 := dk_seg dksJ12_grow_6 24 rfl rfl
theorem dJ12_grow_0 : decode cJ12_grow 0 = .ok (.aload_n 0, 1) := dk_42 (dk_at dksJ12_grow_0 0 rfl rfl)
theorem dJ12_grow_1 : decode cJ12_grow 1 = .ok (.getfield 3, 3) := dk_180 0 3 (dk_at dksJ12_grow_0 1 rfl rfl)
theorem dJ12_grow_4 : decode cJ12_grow 4 = .ok (.arraylength, 1) := dk_190 (dk_at dksJ12_grow_0 4 rfl rfl)
theorem dJ12_grow_5 : decode cJ12_grow 5 = .ok (.istore_n 2, 1) := dk_61 (dk_at dksJ12_grow_0 5 rfl rfl)
theorem dJ12_grow_6 : decode cJ12_grow 6 = .ok (.iload_n 2, 1) := dk_28 (dk_at dksJ12_grow_0 6 rfl rfl)
theorem dJ12_grow_7 : decode cJ12_grow 7 = .ok (.bipush 64, 2) := dk_16 64 (dk_at dksJ12_grow_0 7 rfl rfl)
theorem dJ12_grow_9 : decode cJ12_grow 9 = .ok (.if_icmp .ge 9, 3) := dk_162 0 9 (dk_at dksJ12_grow_0 9 rfl rfl)
theorem dJ12_grow_12 : decode cJ12_grow 12 = .ok (.iload_n 2, 1) := dk_28 (dk_at dksJ12_grow_0 12 rfl rfl)
theorem dJ12_grow_13 : decode cJ12_grow 13 = .ok (.iconst 2, 1) := dk_5 (dk_at dksJ12_grow_0 13 rfl rfl)
theorem dJ12_grow_14 : decode cJ12_grow 14 = .ok (.iadd, 1) := dk_96 (dk_at dksJ12_grow_0 14 rfl rfl)
theorem dJ12_grow_15 : decode cJ12_grow 15 = .ok (.goto 6, 3) := dk_167 0 6 (dk_at dksJ12_grow_0 15 rfl rfl)
theorem dJ12_grow_18 : decode cJ12_grow 18 = .ok (.iload_n 2, 1) := dk_28 (dk_at dksJ12_grow_0 18 rfl rfl)
theorem dJ12_grow_19 : decode cJ12_grow 19 = .ok (.iconst 1, 1) := dk_4 (dk_at dksJ12_grow_0 19 rfl rfl)
theorem dJ12_grow_20 : decode cJ12_grow 20 = .ok (.ishr, 1) := dk_122 (dk_at dksJ12_grow_0 20 rfl rfl)
theorem dJ12_grow_21 : decode cJ12_grow 21 = .ok (.istore 4, 2) := dk_54 4 (dk_at dksJ12_grow_0 21 rfl rfl)
theorem dJ12_grow_23 : decode cJ12_grow 23 = .ok (.iload 4, 2) := dk_21 4 (dk_at dksJ12_grow_1 0 rfl rfl)
theorem dJ12_grow_25 : decode cJ12_grow 25 = .ok (.iload_n 1, 1) := dk_27 (dk_at dksJ12_grow_1 2 rfl rfl)
theorem dJ12_grow_26 : decode cJ12_grow 26 = .ok (.if_icmp .lt 15, 3) := dk_161 0 15 (dk_at dksJ12_grow_1 3 rfl rfl)
theorem dJ12_grow_29 : decode cJ12_grow 29 = .ok (.iload_n 2, 1) := dk_28 (dk_at dksJ12_grow_1 6 rfl rfl)
theorem dJ12_grow_30 : decode cJ12_grow 30 = .ok (.iload 4, 2) := dk_21 4 (dk_at dksJ12_grow_1 7 rfl rfl)
theorem dJ12_grow_32 : decode cJ12_grow 32 = .ok (.iadd, 1) := dk_96 (dk_at dksJ12_grow_1 9 rfl rfl)
theorem dJ12_grow_33 : decode cJ12_grow 33 = .ok (.dup, 1) := dk_89 (dk_at dksJ12_grow_1 10 rfl rfl)
theorem dJ12_grow_34 : decode cJ12_grow 34 = .ok (.istore_n 3, 1) := dk_62 (dk_at dksJ12_grow_1 11 rfl rfl)
theorem dJ12_grow_35 : decode cJ12_grow 35 = .ok (.ldc 9, 2) := dk_18 9 (dk_at dksJ12_grow_1 12 rfl rfl)
theorem dJ12_grow_37 : decode cJ12_grow 37 = .ok (.isub, 1) := dk_100 (dk_at dksJ12_grow_1 14 rfl rfl)
theorem dJ12_grow_38 : decode cJ12_grow 38 = .ok (.ifCond .le 11, 3) := dk_158 0 11 (dk_at dksJ12_grow_1 15 rfl rfl)
theorem dJ12_grow_41 : decode cJ12_grow 41 = .ok (.aload_n 0, 1) := dk_42 (dk_at dksJ12_grow_1 18 rfl rfl)
theorem dJ12_grow_42 : decode cJ12_grow 42 = .ok (.iload_n 1, 1) := dk_27 (dk_at dksJ12_grow_1 19 rfl rfl)
theorem dJ12_grow_43 : decode cJ12_grow 43 = .ok (.iload 4, 2) := dk_21 4 (dk_at dksJ12_grow_1 20 rfl rfl)
theorem dJ12_grow_45 : decode cJ12_grow 45 = .ok (.invokevirtual 10, 3) := dk_182 0 10 (dk_at dksJ12_grow_2 0 rfl rfl)
theorem dJ12_grow_48 : decode cJ12_grow 48 = .ok (.istore_n 3, 1) := dk_62 (dk_at dksJ12_grow_2 3 rfl rfl)
theorem dJ12_grow_49 : decode cJ12_grow 49 = .ok (.aload_n 0, 1) := dk_42 (dk_at dksJ12_grow_2 4 rfl rfl)
theorem dJ12_grow_50 : decode cJ12_grow 50 = .ok (.aload_n 0, 1) := dk_42 (dk_at dksJ12_grow_2 5 rfl rfl)
theorem dJ12_grow_51 : decode cJ12_grow 51 = .ok (.getfield 3, 3) := dk_180 0 3 (dk_at dksJ12_grow_2 6 rfl rfl)
theorem dJ12_grow_54 : decode cJ12_grow 54 = .ok (.iload_n 3, 1) := dk_29 (dk_at dksJ12_grow_2 9 rfl rfl)
theorem dJ12_grow_55 : decode cJ12_grow 55 = .ok (.invokestatic 14, 3) := dk_184 0 14 (dk_at dksJ12_grow_2 10 rfl rfl)
theorem dJ12_grow_58 : decode cJ12_grow 58 = .ok (.dup_x1, 1) := dk_90 (dk_at dksJ12_grow_2 13 rfl rfl)
theorem dJ12_grow_59 : decode cJ12_grow 59 = .ok (.putfield 3, 3) := dk_181 0 3 (dk_at dksJ12_grow_2 14 rfl rfl)
theorem dJ12_grow_62 : decode cJ12_grow 62 = .ok (.astore 5, 2) := dk_58 5 (dk_at dksJ12_grow_2 17 rfl rfl)
theorem dJ12_grow_64 : decode cJ12_grow 64 = .ok (.aload_n 0, 1) := dk_42 (dk_at dksJ12_grow_2 19 rfl rfl)
theorem dJ12_grow_65 : decode cJ12_grow 65 = .ok (.getfield 20, 3) := dk_180 0 20 (dk_at dksJ12_grow_2 20 rfl rfl)
theorem dJ12_grow_68 : decode cJ12_grow 68 = .ok (.aload_n 0, 1) := dk_42 (dk_at dksJ12_grow_2 23 rfl rfl)
theorem dJ12_grow_69 : decode cJ12_grow 69 = .ok (.getfield 24, 3) := dk_180 0 24 (dk_at dksJ12_grow_3 0 rfl rfl)
theorem dJ12_grow_72 : decode cJ12_grow 72 = .ok (.if_icmp .lt 24, 3) := dk_161 0 24 (dk_at dksJ12_grow_3 3 rfl rfl)
theorem dJ12_grow_75 : decode cJ12_grow 75 = .ok (.aload_n 0, 1) := dk_42 (dk_at dksJ12_grow_3 6 rfl rfl)
theorem dJ12_grow_76 : decode cJ12_grow 76 = .ok (.getfield 20, 3) := dk_180 0 20 (dk_at dksJ12_grow_3 7 rfl rfl)
theorem dJ12_grow_79 : decode cJ12_grow 79 = .ok (.aload_n 0, 1) := dk_42 (dk_at dksJ12_grow_3 10 rfl rfl)
theorem dJ12_grow_80 : decode cJ12_grow 80 = .ok (.getfield 24, 3) := dk_180 0 24 (dk_at dksJ12_grow_3 11 rfl rfl)
theorem dJ12_grow_83 : decode cJ12_grow 83 = .ok (.if_icmp .ne 81, 3) := dk_160 0 81 (dk_at dksJ12_grow_3 14 rfl rfl)
theorem dJ12_grow_86 : decode cJ12_grow 86 = .ok (.aload 5, 2) := dk_25 5 (dk_at dksJ12_grow_3 17 rfl rfl)
theorem dJ12_grow_88 : decode cJ12_grow 88 = .ok (.aload_n 0, 1) := dk_42 (dk_at dksJ12_grow_3 19 rfl rfl)
theorem dJ12_grow_89 : decode cJ12_grow 89 = .ok (.getfield 24, 3) := dk_180 0 24 (dk_at dksJ12_grow_3 20 rfl rfl)
theorem dJ12_grow_92 : decode cJ12_grow 92 = .ok (.aaload, 1) := dk_50 (dk_at dksJ12_grow_3 23 rfl rfl)
theorem dJ12_grow_93 : decode cJ12_grow 93 = .ok (.ifnull 71, 3) := dk_198 0 71 (dk_at dksJ12_grow_4 0 rfl rfl)
theorem dJ12_grow_96 : decode cJ12_grow 96 = .ok (.iload_n 3, 1) := dk_29 (dk_at dksJ12_grow_4 3 rfl rfl)
theorem dJ12_grow_97 : decode cJ12_grow 97 = .ok (.iload_n 2, 1) := dk_28 (dk_at dksJ12_grow_4 4 rfl rfl)
theorem dJ12_grow_98 : decode cJ12_grow 98 = .ok (.isub, 1) := dk_100 (dk_at dksJ12_grow_4 5 rfl rfl)
theorem dJ12_grow_99 : decode cJ12_grow 99 = .ok (.istore 6, 2) := dk_54 6 (dk_at dksJ12_grow_4 6 rfl rfl)
theorem dJ12_grow_101 : decode cJ12_grow 101 = .ok (.aload 5, 2) := dk_25 5 (dk_at dksJ12_grow_4 8 rfl rfl)
theorem dJ12_grow_103 : decode cJ12_grow 103 = .ok (.aload_n 0, 1) := dk_42 (dk_at dksJ12_grow_4 10 rfl rfl)
theorem dJ12_grow_104 : decode cJ12_grow 104 = .ok (.getfield 24, 3) := dk_180 0 24 (dk_at dksJ12_grow_4 11 rfl rfl)
theorem dJ12_grow_107 : decode cJ12_grow 107 = .ok (.aload 5, 2) := dk_25 5 (dk_at dksJ12_grow_4 14 rfl rfl)
theorem dJ12_grow_109 : decode cJ12_grow 109 = .ok (.aload_n 0, 1) := dk_42 (dk_at dksJ12_grow_4 16 rfl rfl)
theorem dJ12_grow_110 : decode cJ12_grow 110 = .ok (.getfield 24, 3) := dk_180 0 24 (dk_at dksJ12_grow_4 17 rfl rfl)
theorem dJ12_grow_113 : decode cJ12_grow 113 = .ok (.iload 6, 2) := dk_21 6 (dk_at dksJ12_grow_4 20 rfl rfl)
theorem dJ12_grow_115 : decode cJ12_grow 115 = .ok (.iadd, 1) := dk_96 (dk_at dksJ12_grow_4 22 rfl rfl)
theorem dJ12_grow_116 : decode cJ12_grow 116 = .ok (.iload_n 2, 1) := dk_28 (dk_at dksJ12_grow_4 23 rfl rfl)
theorem dJ12_grow_117 : decode cJ12_grow 117 = .ok (.aload_n 0, 1) := dk_42 (dk_at dksJ12_grow_5 0 rfl rfl)
theorem dJ12_grow_118 : decode cJ12_grow 118 = .ok (.getfield 24, 3) := dk_180 0 24 (dk_at dksJ12_grow_5 1 rfl rfl)
theorem dJ12_grow_121 : decode cJ12_grow 121 = .ok (.isub, 1) := dk_100 (dk_at dksJ12_grow_5 4 rfl rfl)
theorem dJ12_grow_122 : decode cJ12_grow 122 = .ok (.invokestatic 27, 3) := dk_184 0 27 (dk_at dksJ12_grow_5 5 rfl rfl)
theorem dJ12_grow_125 : decode cJ12_grow 125 = .ok (.aload_n 0, 1) := dk_42 (dk_at dksJ12_grow_5 8 rfl rfl)
theorem dJ12_grow_126 : decode cJ12_grow 126 = .ok (.getfield 24, 3) := dk_180 0 24 (dk_at dksJ12_grow_5 9 rfl rfl)
theorem dJ12_grow_129 : decode cJ12_grow 129 = .ok (.istore 7, 2) := dk_54 7 (dk_at dksJ12_grow_5 12 rfl rfl)
theorem dJ12_grow_131 : decode cJ12_grow 131 = .ok (.aload_n 0, 1) := dk_42 (dk_at dksJ12_grow_5 14 rfl rfl)
theorem dJ12_grow_132 : decode cJ12_grow 132 = .ok (.dup, 1) := dk_89 (dk_at dksJ12_grow_5 15 rfl rfl)
theorem dJ12_grow_133 : decode cJ12_grow 133 = .ok (.getfield 24, 3) := dk_180 0 24 (dk_at dksJ12_grow_5 16 rfl rfl)
theorem dJ12_grow_136 : decode cJ12_grow 136 = .ok (.iload 6, 2) := dk_21 6 (dk_at dksJ12_grow_5 19 rfl rfl)
theorem dJ12_grow_138 : decode cJ12_grow 138 = .ok (.iadd, 1) := dk_96 (dk_at dksJ12_grow_5 21 rfl rfl)
theorem dJ12_grow_139 : decode cJ12_grow 139 = .ok (.dup_x1, 1) := dk_90 (dk_at dksJ12_grow_5 22 rfl rfl)
theorem dJ12_grow_140 : decode cJ12_grow 140 = .ok (.putfield 24, 3) := dk_181 0 24 (dk_at dksJ12_grow_6 0 rfl rfl)
theorem dJ12_grow_143 : decode cJ12_grow 143 = .ok (.istore 8, 2) := dk_54 8 (dk_at dksJ12_grow_6 3 rfl rfl)
theorem dJ12_grow_145 : decode cJ12_grow 145 = .ok (.iload 7, 2) := dk_21 7 (dk_at dksJ12_grow_6 5 rfl rfl)
theorem dJ12_grow_147 : decode cJ12_grow 147 = .ok (.iload 8, 2) := dk_21 8 (dk_at dksJ12_grow_6 7 rfl rfl)
theorem dJ12_grow_149 : decode cJ12_grow 149 = .ok (.if_icmp .ge 15, 3) := dk_162 0 15 (dk_at dksJ12_grow_6 9 rfl rfl)
theorem dJ12_grow_152 : decode cJ12_grow 152 = .ok (.aload 5, 2) := dk_25 5 (dk_at dksJ12_grow_6 12 rfl rfl)
theorem dJ12_grow_154 : decode cJ12_grow 154 = .ok (.iload 7, 2) := dk_21 7 (dk_at dksJ12_grow_6 14 rfl rfl)
theorem dJ12_grow_156 : decode cJ12_grow 156 = .ok (.aconst_null, 1) := dk_1 (dk_at dksJ12_grow_6 16 rfl rfl)
theorem dJ12_grow_157 : decode cJ12_grow 157 = .ok (.aastore, 1) := dk_83 (dk_at dksJ12_grow_6 17 rfl rfl)
theorem dJ12_grow_158 : decode cJ12_grow 158 = .ok (.iinc 7 1, 3) := dk_132 7 1 (dk_at dksJ12_grow_6 18 rfl rfl)
theorem dJ12_grow_161 : decode cJ12_grow 161 = .ok (.goto (-16), 3) := dk_167 255 240 (dk_at dksJ12_grow_6 21 rfl rfl)
theorem dJ12_grow_164 : decode cJ12_grow 164 = .ok (.return_, 1) := dk_177 (dk_at dksJ12_grow_7 0 rfl rfl)
abbrev cJ12_newCapacity : ByteArray := prog_47_method_2_code
def yJ12_newCapacity : MethodName := ⟨RJ12, "newCapacity", "(II)I"⟩
def dkwJ12_newCapacity_2 : List UInt8 := [18, 9, 100, 156, 0, 9, 29, 28, 96, 167, 0, 5, 18, 9, 172]
abbrev dktJ12_newCapacity_2 : List UInt8 := dkwJ12_newCapacity_2 ++ []
def dkwJ12_newCapacity_1 : List UInt8 := [187, 0, 33, 89, 18, 35, 183, 0, 37, 191, 18, 41, 172, 27, 28, 164, 0, 6, 21, 4, 172, 29, 28, 96]
abbrev dktJ12_newCapacity_1 : List UInt8 := dkwJ12_newCapacity_1 ++ dktJ12_newCapacity_2
def dkwJ12_newCapacity_0 : List UInt8 := [42, 180, 0, 3, 190, 62, 29, 27, 96, 89, 54, 4, 18, 9, 100, 158, 0, 21, 21, 4, 156, 0, 13]
abbrev dktJ12_newCapacity_0 : List UInt8 := dkwJ12_newCapacity_0 ++ dktJ12_newCapacity_1
theorem dksJ12_newCapacity_0 : cJ12_newCapacity.data.toList.drop 0 = dktJ12_newCapacity_0 := by decide +kernel
theorem dksJ12_newCapacity_1 : cJ12_newCapacity.data.toList.drop 23 = dktJ12_newCapacity_1 := dk_seg dksJ12_newCapacity_0 23 rfl rfl
theorem dksJ12_newCapacity_2 : cJ12_newCapacity.data.toList.drop 47 = dktJ12_newCapacity_2 := dk_seg dksJ12_newCapacity_1 24 rfl rfl
theorem dJ12_newCapacity_0 : decode cJ12_newCapacity 0 = .ok (.aload_n 0, 1) := dk_42 (dk_at dksJ12_newCapacity_0 0 rfl rfl)
theorem dJ12_newCapacity_1 : decode cJ12_newCapacity 1 = .ok (.getfield 3, 3) := dk_180 0 3 (dk_at dksJ12_newCapacity_0 1 rfl rfl)
theorem dJ12_newCapacity_4 : decode cJ12_newCapacity 4 = .ok (.arraylength, 1) := dk_190 (dk_at dksJ12_newCapacity_0 4 rfl rfl)
theorem dJ12_newCapacity_5 : decode cJ12_newCapacity 5 = .ok (.istore_n 3, 1) := dk_62 (dk_at dksJ12_newCapacity_0 5 rfl rfl)
theorem dJ12_newCapacity_6 : decode cJ12_newCapacity 6 = .ok (.iload_n 3, 1) := dk_29 (dk_at dksJ12_newCapacity_0 6 rfl rfl)
theorem dJ12_newCapacity_7 : decode cJ12_newCapacity 7 = .ok (.iload_n 1, 1) := dk_27 (dk_at dksJ12_newCapacity_0 7 rfl rfl)
theorem dJ12_newCapacity_8 : decode cJ12_newCapacity 8 = .ok (.iadd, 1) := dk_96 (dk_at dksJ12_newCapacity_0 8 rfl rfl)
theorem dJ12_newCapacity_9 : decode cJ12_newCapacity 9 = .ok (.dup, 1) := dk_89 (dk_at dksJ12_newCapacity_0 9 rfl rfl)
theorem dJ12_newCapacity_10 : decode cJ12_newCapacity 10 = .ok (.istore 4, 2) := dk_54 4 (dk_at dksJ12_newCapacity_0 10 rfl rfl)
theorem dJ12_newCapacity_12 : decode cJ12_newCapacity 12 = .ok (.ldc 9, 2) := dk_18 9 (dk_at dksJ12_newCapacity_0 12 rfl rfl)
theorem dJ12_newCapacity_14 : decode cJ12_newCapacity 14 = .ok (.isub, 1) := dk_100 (dk_at dksJ12_newCapacity_0 14 rfl rfl)
theorem dJ12_newCapacity_15 : decode cJ12_newCapacity 15 = .ok (.ifCond .le 21, 3) := dk_158 0 21 (dk_at dksJ12_newCapacity_0 15 rfl rfl)
theorem dJ12_newCapacity_18 : decode cJ12_newCapacity 18 = .ok (.iload 4, 2) := dk_21 4 (dk_at dksJ12_newCapacity_0 18 rfl rfl)
theorem dJ12_newCapacity_20 : decode cJ12_newCapacity 20 = .ok (.ifCond .ge 13, 3) := dk_156 0 13 (dk_at dksJ12_newCapacity_0 20 rfl rfl)
theorem dJ12_newCapacity_23 : decode cJ12_newCapacity 23 = .ok (.new 33, 3) := dk_187 0 33 (dk_at dksJ12_newCapacity_1 0 rfl rfl)
theorem dJ12_newCapacity_26 : decode cJ12_newCapacity 26 = .ok (.dup, 1) := dk_89 (dk_at dksJ12_newCapacity_1 3 rfl rfl)
theorem dJ12_newCapacity_27 : decode cJ12_newCapacity 27 = .ok (.ldc 35, 2) := dk_18 35 (dk_at dksJ12_newCapacity_1 4 rfl rfl)
theorem dJ12_newCapacity_29 : decode cJ12_newCapacity 29 = .ok (.invokespecial 37, 3) := dk_183 0 37 (dk_at dksJ12_newCapacity_1 6 rfl rfl)
theorem dJ12_newCapacity_32 : decode cJ12_newCapacity 32 = .ok (.athrow, 1) := dk_191 (dk_at dksJ12_newCapacity_1 9 rfl rfl)
theorem dJ12_newCapacity_33 : decode cJ12_newCapacity 33 = .ok (.ldc 41, 2) := dk_18 41 (dk_at dksJ12_newCapacity_1 10 rfl rfl)
theorem dJ12_newCapacity_35 : decode cJ12_newCapacity 35 = .ok (.ireturn, 1) := dk_172 (dk_at dksJ12_newCapacity_1 12 rfl rfl)
theorem dJ12_newCapacity_36 : decode cJ12_newCapacity 36 = .ok (.iload_n 1, 1) := dk_27 (dk_at dksJ12_newCapacity_1 13 rfl rfl)
theorem dJ12_newCapacity_37 : decode cJ12_newCapacity 37 = .ok (.iload_n 2, 1) := dk_28 (dk_at dksJ12_newCapacity_1 14 rfl rfl)
theorem dJ12_newCapacity_38 : decode cJ12_newCapacity 38 = .ok (.if_icmp .le 6, 3) := dk_164 0 6 (dk_at dksJ12_newCapacity_1 15 rfl rfl)
theorem dJ12_newCapacity_41 : decode cJ12_newCapacity 41 = .ok (.iload 4, 2) := dk_21 4 (dk_at dksJ12_newCapacity_1 18 rfl rfl)
theorem dJ12_newCapacity_43 : decode cJ12_newCapacity 43 = .ok (.ireturn, 1) := dk_172 (dk_at dksJ12_newCapacity_1 20 rfl rfl)
theorem dJ12_newCapacity_44 : decode cJ12_newCapacity 44 = .ok (.iload_n 3, 1) := dk_29 (dk_at dksJ12_newCapacity_1 21 rfl rfl)
theorem dJ12_newCapacity_45 : decode cJ12_newCapacity 45 = .ok (.iload_n 2, 1) := dk_28 (dk_at dksJ12_newCapacity_1 22 rfl rfl)
theorem dJ12_newCapacity_46 : decode cJ12_newCapacity 46 = .ok (.iadd, 1) := dk_96 (dk_at dksJ12_newCapacity_1 23 rfl rfl)
theorem dJ12_newCapacity_47 : decode cJ12_newCapacity 47 = .ok (.ldc 9, 2) := dk_18 9 (dk_at dksJ12_newCapacity_2 0 rfl rfl)
theorem dJ12_newCapacity_49 : decode cJ12_newCapacity 49 = .ok (.isub, 1) := dk_100 (dk_at dksJ12_newCapacity_2 2 rfl rfl)
theorem dJ12_newCapacity_50 : decode cJ12_newCapacity 50 = .ok (.ifCond .ge 9, 3) := dk_156 0 9 (dk_at dksJ12_newCapacity_2 3 rfl rfl)
theorem dJ12_newCapacity_53 : decode cJ12_newCapacity 53 = .ok (.iload_n 3, 1) := dk_29 (dk_at dksJ12_newCapacity_2 6 rfl rfl)
theorem dJ12_newCapacity_54 : decode cJ12_newCapacity 54 = .ok (.iload_n 2, 1) := dk_28 (dk_at dksJ12_newCapacity_2 7 rfl rfl)
theorem dJ12_newCapacity_55 : decode cJ12_newCapacity 55 = .ok (.iadd, 1) := dk_96 (dk_at dksJ12_newCapacity_2 8 rfl rfl)
theorem dJ12_newCapacity_56 : decode cJ12_newCapacity 56 = .ok (.goto 5, 3) := dk_167 0 5 (dk_at dksJ12_newCapacity_2 9 rfl rfl)
theorem dJ12_newCapacity_59 : decode cJ12_newCapacity 59 = .ok (.ldc 9, 2) := dk_18 9 (dk_at dksJ12_newCapacity_2 12 rfl rfl)
theorem dJ12_newCapacity_61 : decode cJ12_newCapacity 61 = .ok (.ireturn, 1) := dk_172 (dk_at dksJ12_newCapacity_2 14 rfl rfl)
abbrev cJ12_removeLast : ByteArray := prog_47_method_19_code
def yJ12_removeLast : MethodName := ⟨RJ12, "removeLast", "()Ljava/lang/Object;"⟩
def dkwJ12_removeLast_0 : List UInt8 := [42, 182, 0, 100, 76, 43, 199, 0, 11, 187, 0, 97, 89, 183, 0, 99, 191, 43, 176]
abbrev dktJ12_removeLast_0 : List UInt8 := dkwJ12_removeLast_0 ++ []
theorem dksJ12_removeLast_0 : cJ12_removeLast.data.toList.drop 0 = dktJ12_removeLast_0 := by decide +kernel
theorem dJ12_removeLast_0 : decode cJ12_removeLast 0 = .ok (.aload_n 0, 1) := dk_42 (dk_at dksJ12_removeLast_0 0 rfl rfl)
theorem dJ12_removeLast_1 : decode cJ12_removeLast 1 = .ok (.invokevirtual 100, 3) := dk_182 0 100 (dk_at dksJ12_removeLast_0 1 rfl rfl)
theorem dJ12_removeLast_4 : decode cJ12_removeLast 4 = .ok (.astore_n 1, 1) := dk_76 (dk_at dksJ12_removeLast_0 4 rfl rfl)
theorem dJ12_removeLast_5 : decode cJ12_removeLast 5 = .ok (.aload_n 1, 1) := dk_43 (dk_at dksJ12_removeLast_0 5 rfl rfl)
theorem dJ12_removeLast_6 : decode cJ12_removeLast 6 = .ok (.ifnonnull 11, 3) := dk_199 0 11 (dk_at dksJ12_removeLast_0 6 rfl rfl)
theorem dJ12_removeLast_9 : decode cJ12_removeLast 9 = .ok (.new 97, 3) := dk_187 0 97 (dk_at dksJ12_removeLast_0 9 rfl rfl)
theorem dJ12_removeLast_12 : decode cJ12_removeLast 12 = .ok (.dup, 1) := dk_89 (dk_at dksJ12_removeLast_0 12 rfl rfl)
theorem dJ12_removeLast_13 : decode cJ12_removeLast 13 = .ok (.invokespecial 99, 3) := dk_183 0 99 (dk_at dksJ12_removeLast_0 13 rfl rfl)
theorem dJ12_removeLast_16 : decode cJ12_removeLast 16 = .ok (.athrow, 1) := dk_191 (dk_at dksJ12_removeLast_0 16 rfl rfl)
theorem dJ12_removeLast_17 : decode cJ12_removeLast 17 = .ok (.aload_n 1, 1) := dk_43 (dk_at dksJ12_removeLast_0 17 rfl rfl)
theorem dJ12_removeLast_18 : decode cJ12_removeLast 18 = .ok (.areturn, 1) := dk_176 (dk_at dksJ12_removeLast_0 18 rfl rfl)
abbrev cJ12_pollLast : ByteArray := prog_47_method_21_code
def yJ12_pollLast : MethodName := ⟨RJ12, "pollLast", "()Ljava/lang/Object;"⟩
def dkwJ12_pollLast_1 : List UInt8 := [198, 0, 12, 43, 42, 28, 90, 181, 0, 20, 1, 83, 45, 176]
abbrev dktJ12_pollLast_1 : List UInt8 := dkwJ12_pollLast_1 ++ []
def dkwJ12_pollLast_0 : List UInt8 := [42, 180, 0, 3, 89, 76, 42, 180, 0, 20, 43, 190, 184, 0, 68, 89, 61, 184, 0, 103, 78, 45]
abbrev dktJ12_pollLast_0 : List UInt8 := dkwJ12_pollLast_0 ++ dktJ12_pollLast_1
theorem dksJ12_pollLast_0 : cJ12_pollLast.data.toList.drop 0 = dktJ12_pollLast_0 := by decide +kernel
theorem dksJ12_pollLast_1 : cJ12_pollLast.data.toList.drop 22 = dktJ12_pollLast_1 := dk_seg dksJ12_pollLast_0 22 rfl rfl
theorem dJ12_pollLast_0 : decode cJ12_pollLast 0 = .ok (.aload_n 0, 1) := dk_42 (dk_at dksJ12_pollLast_0 0 rfl rfl)
theorem dJ12_pollLast_1 : decode cJ12_pollLast 1 = .ok (.getfield 3, 3) := dk_180 0 3 (dk_at dksJ12_pollLast_0 1 rfl rfl)
theorem dJ12_pollLast_4 : decode cJ12_pollLast 4 = .ok (.dup, 1) := dk_89 (dk_at dksJ12_pollLast_0 4 rfl rfl)
theorem dJ12_pollLast_5 : decode cJ12_pollLast 5 = .ok (.astore_n 1, 1) := dk_76 (dk_at dksJ12_pollLast_0 5 rfl rfl)
theorem dJ12_pollLast_6 : decode cJ12_pollLast 6 = .ok (.aload_n 0, 1) := dk_42 (dk_at dksJ12_pollLast_0 6 rfl rfl)
theorem dJ12_pollLast_7 : decode cJ12_pollLast 7 = .ok (.getfield 20, 3) := dk_180 0 20 (dk_at dksJ12_pollLast_0 7 rfl rfl)
theorem dJ12_pollLast_10 : decode cJ12_pollLast 10 = .ok (.aload_n 1, 1) := dk_43 (dk_at dksJ12_pollLast_0 10 rfl rfl)
theorem dJ12_pollLast_11 : decode cJ12_pollLast 11 = .ok (.arraylength, 1) := dk_190 (dk_at dksJ12_pollLast_0 11 rfl rfl)
theorem dJ12_pollLast_12 : decode cJ12_pollLast 12 = .ok (.invokestatic 68, 3) := dk_184 0 68 (dk_at dksJ12_pollLast_0 12 rfl rfl)
theorem dJ12_pollLast_15 : decode cJ12_pollLast 15 = .ok (.dup, 1) := dk_89 (dk_at dksJ12_pollLast_0 15 rfl rfl)
theorem dJ12_pollLast_16 : decode cJ12_pollLast 16 = .ok (.istore_n 2, 1) := dk_61 (dk_at dksJ12_pollLast_0 16 rfl rfl)
theorem dJ12_pollLast_17 : decode cJ12_pollLast 17 = .ok (.invokestatic 103, 3) := dk_184 0 103 (dk_at dksJ12_pollLast_0 17 rfl rfl)
theorem dJ12_pollLast_20 : decode cJ12_pollLast 20 = .ok (.astore_n 3, 1) := dk_78 (dk_at dksJ12_pollLast_0 20 rfl rfl)
theorem dJ12_pollLast_21 : decode cJ12_pollLast 21 = .ok (.aload_n 3, 1) := dk_45 (dk_at dksJ12_pollLast_0 21 rfl rfl)
theorem dJ12_pollLast_22 : decode cJ12_pollLast 22 = .ok (.ifnull 12, 3) := dk_198 0 12 (dk_at dksJ12_pollLast_1 0 rfl rfl)
theorem dJ12_pollLast_25 : decode cJ12_pollLast 25 = .ok (.aload_n 1, 1) := dk_43 (dk_at dksJ12_pollLast_1 3 rfl rfl)
theorem dJ12_pollLast_26 : decode cJ12_pollLast 26 = .ok (.aload_n 0, 1) := dk_42 (dk_at dksJ12_pollLast_1 4 rfl rfl)
theorem dJ12_pollLast_27 : decode cJ12_pollLast 27 = .ok (.iload_n 2, 1) := dk_28 (dk_at dksJ12_pollLast_1 5 rfl rfl)
theorem dJ12_pollLast_28 : decode cJ12_pollLast 28 = .ok (.dup_x1, 1) := dk_90 (dk_at dksJ12_pollLast_1 6 rfl rfl)
theorem dJ12_pollLast_29 : decode cJ12_pollLast 29 = .ok (.putfield 20, 3) := dk_181 0 20 (dk_at dksJ12_pollLast_1 7 rfl rfl)
theorem dJ12_pollLast_32 : decode cJ12_pollLast 32 = .ok (.aconst_null, 1) := dk_1 (dk_at dksJ12_pollLast_1 10 rfl rfl)
theorem dJ12_pollLast_33 : decode cJ12_pollLast 33 = .ok (.aastore, 1) := dk_83 (dk_at dksJ12_pollLast_1 11 rfl rfl)
theorem dJ12_pollLast_34 : decode cJ12_pollLast 34 = .ok (.aload_n 3, 1) := dk_45 (dk_at dksJ12_pollLast_1 12 rfl rfl)
theorem dJ12_pollLast_35 : decode cJ12_pollLast 35 = .ok (.areturn, 1) := dk_176 (dk_at dksJ12_pollLast_1 13 rfl rfl)
abbrev cJ12_dec : ByteArray := prog_47_method_7_code
def yJ12_dec : MethodName := ⟨RJ12, "dec", "(II)I"⟩
def dkwJ12_dec_0 : List UInt8 := [132, 0, 255, 26, 156, 0, 7, 27, 4, 100, 59, 26, 172]
abbrev dktJ12_dec_0 : List UInt8 := dkwJ12_dec_0 ++ []
theorem dksJ12_dec_0 : cJ12_dec.data.toList.drop 0 = dktJ12_dec_0 := by decide +kernel
theorem dJ12_dec_0 : decode cJ12_dec 0 = .ok (.iinc 0 (-1), 3) := dk_132 0 255 (dk_at dksJ12_dec_0 0 rfl rfl)
theorem dJ12_dec_3 : decode cJ12_dec 3 = .ok (.iload_n 0, 1) := dk_26 (dk_at dksJ12_dec_0 3 rfl rfl)
theorem dJ12_dec_4 : decode cJ12_dec 4 = .ok (.ifCond .ge 7, 3) := dk_156 0 7 (dk_at dksJ12_dec_0 4 rfl rfl)
theorem dJ12_dec_7 : decode cJ12_dec 7 = .ok (.iload_n 1, 1) := dk_27 (dk_at dksJ12_dec_0 7 rfl rfl)
theorem dJ12_dec_8 : decode cJ12_dec 8 = .ok (.iconst 1, 1) := dk_4 (dk_at dksJ12_dec_0 8 rfl rfl)
theorem dJ12_dec_9 : decode cJ12_dec 9 = .ok (.isub, 1) := dk_100 (dk_at dksJ12_dec_0 9 rfl rfl)
theorem dJ12_dec_10 : decode cJ12_dec 10 = .ok (.istore_n 0, 1) := dk_59 (dk_at dksJ12_dec_0 10 rfl rfl)
theorem dJ12_dec_11 : decode cJ12_dec 11 = .ok (.iload_n 0, 1) := dk_26 (dk_at dksJ12_dec_0 11 rfl rfl)
theorem dJ12_dec_12 : decode cJ12_dec 12 = .ok (.ireturn, 1) := dk_172 (dk_at dksJ12_dec_0 12 rfl rfl)
abbrev cJ12_elementAt : ByteArray := prog_47_method_10_code
def yJ12_elementAt : MethodName := ⟨RJ12, "elementAt", "([Ljava/lang/Object;I)Ljava/lang/Object;"⟩
def dkwJ12_elementAt_0 : List UInt8 := [42, 27, 50, 176]
abbrev dktJ12_elementAt_0 : List UInt8 := dkwJ12_elementAt_0 ++ []
theorem dksJ12_elementAt_0 : cJ12_elementAt.data.toList.drop 0 = dktJ12_elementAt_0 := by decide +kernel
theorem dJ12_elementAt_0 : decode cJ12_elementAt 0 = .ok (.aload_n 0, 1) := dk_42 (dk_at dksJ12_elementAt_0 0 rfl rfl)
theorem dJ12_elementAt_1 : decode cJ12_elementAt 1 = .ok (.iload_n 1, 1) := dk_27 (dk_at dksJ12_elementAt_0 1 rfl rfl)
theorem dJ12_elementAt_2 : decode cJ12_elementAt 2 = .ok (.aaload, 1) := dk_50 (dk_at dksJ12_elementAt_0 2 rfl rfl)
theorem dJ12_elementAt_3 : decode cJ12_elementAt 3 = .ok (.areturn, 1) := dk_176 (dk_at dksJ12_elementAt_0 3 rfl rfl)
abbrev cJ12_addFirst : ByteArray := prog_47_method_12_code
def yJ12_addFirst : MethodName := ⟨RJ12, "addFirst", "(Ljava/lang/Object;)V"⟩
def dkwJ12_addFirst_2 : List UInt8 := [182, 0, 71, 177]
abbrev dktJ12_addFirst_2 : List UInt8 := dkwJ12_addFirst_2 ++ []
def dkwJ12_addFirst_1 : List UInt8 := [190, 184, 0, 68, 90, 181, 0, 24, 43, 83, 42, 180, 0, 24, 42, 180, 0, 20, 160, 0, 8, 42, 4]
abbrev dktJ12_addFirst_1 : List UInt8 := dkwJ12_addFirst_1 ++ dktJ12_addFirst_2
def dkwJ12_addFirst_0 : List UInt8 := [43, 199, 0, 11, 187, 0, 65, 89, 183, 0, 67, 191, 42, 180, 0, 3, 77, 44, 42, 42, 180, 0, 24, 44]
abbrev dktJ12_addFirst_0 : List UInt8 := dkwJ12_addFirst_0 ++ dktJ12_addFirst_1
theorem dksJ12_addFirst_0 : cJ12_addFirst.data.toList.drop 0 = dktJ12_addFirst_0 := by decide +kernel
theorem dksJ12_addFirst_1 : cJ12_addFirst.data.toList.drop 24 = dktJ12_addFirst_1 := dk_seg dksJ12_addFirst_0 24 rfl rfl
theorem dksJ12_addFirst_2 : cJ12_addFirst.data.toList.drop 47 = dktJ12_addFirst_2 := dk_seg dksJ12_addFirst_1 23 rfl rfl
theorem dJ12_addFirst_0 : decode cJ12_addFirst 0 = .ok (.aload_n 1, 1) := dk_43 (dk_at dksJ12_addFirst_0 0 rfl rfl)
theorem dJ12_addFirst_1 : decode cJ12_addFirst 1 = .ok (.ifnonnull 11, 3) := dk_199 0 11 (dk_at dksJ12_addFirst_0 1 rfl rfl)
theorem dJ12_addFirst_4 : decode cJ12_addFirst 4 = .ok (.new 65, 3) := dk_187 0 65 (dk_at dksJ12_addFirst_0 4 rfl rfl)
theorem dJ12_addFirst_7 : decode cJ12_addFirst 7 = .ok (.dup, 1) := dk_89 (dk_at dksJ12_addFirst_0 7 rfl rfl)
theorem dJ12_addFirst_8 : decode cJ12_addFirst 8 = .ok (.invokespecial 67, 3) := dk_183 0 67 (dk_at dksJ12_addFirst_0 8 rfl rfl)
theorem dJ12_addFirst_11 : decode cJ12_addFirst 11 = .ok (.athrow, 1) := dk_191 (dk_at dksJ12_addFirst_0 11 rfl rfl)
theorem dJ12_addFirst_12 : decode cJ12_addFirst 12 = .ok (.aload_n 0, 1) := dk_42 (dk_at dksJ12_addFirst_0 12 rfl rfl)
theorem dJ12_addFirst_13 : decode cJ12_addFirst 13 = .ok (.getfield 3, 3) := dk_180 0 3 (dk_at dksJ12_addFirst_0 13 rfl rfl)
theorem dJ12_addFirst_16 : decode cJ12_addFirst 16 = .ok (.astore_n 2, 1) := dk_77 (dk_at dksJ12_addFirst_0 16 rfl rfl)
theorem dJ12_addFirst_17 : decode cJ12_addFirst 17 = .ok (.aload_n 2, 1) := dk_44 (dk_at dksJ12_addFirst_0 17 rfl rfl)
theorem dJ12_addFirst_18 : decode cJ12_addFirst 18 = .ok (.aload_n 0, 1) := dk_42 (dk_at dksJ12_addFirst_0 18 rfl rfl)
theorem dJ12_addFirst_19 : decode cJ12_addFirst 19 = .ok (.aload_n 0, 1) := dk_42 (dk_at dksJ12_addFirst_0 19 rfl rfl)
theorem dJ12_addFirst_20 : decode cJ12_addFirst 20 = .ok (.getfield 24, 3) := dk_180 0 24 (dk_at dksJ12_addFirst_0 20 rfl rfl)
theorem dJ12_addFirst_23 : decode cJ12_addFirst 23 = .ok (.aload_n 2, 1) := dk_44 (dk_at dksJ12_addFirst_0 23 rfl rfl)
theorem dJ12_addFirst_24 : decode cJ12_addFirst 24 = .ok (.arraylength, 1) := dk_190 (dk_at dksJ12_addFirst_1 0 rfl rfl)
theorem dJ12_addFirst_25 : decode cJ12_addFirst 25 = .ok (.invokestatic 68, 3) := dk_184 0 68 (dk_at dksJ12_addFirst_1 1 rfl rfl)
theorem dJ12_addFirst_28 : decode cJ12_addFirst 28 = .ok (.dup_x1, 1) := dk_90 (dk_at dksJ12_addFirst_1 4 rfl rfl)
theorem dJ12_addFirst_29 : decode cJ12_addFirst 29 = .ok (.putfield 24, 3) := dk_181 0 24 (dk_at dksJ12_addFirst_1 5 rfl rfl)
theorem dJ12_addFirst_32 : decode cJ12_addFirst 32 = .ok (.aload_n 1, 1) := dk_43 (dk_at dksJ12_addFirst_1 8 rfl rfl)
theorem dJ12_addFirst_33 : decode cJ12_addFirst 33 = .ok (.aastore, 1) := dk_83 (dk_at dksJ12_addFirst_1 9 rfl rfl)
theorem dJ12_addFirst_34 : decode cJ12_addFirst 34 = .ok (.aload_n 0, 1) := dk_42 (dk_at dksJ12_addFirst_1 10 rfl rfl)
theorem dJ12_addFirst_35 : decode cJ12_addFirst 35 = .ok (.getfield 24, 3) := dk_180 0 24 (dk_at dksJ12_addFirst_1 11 rfl rfl)
theorem dJ12_addFirst_38 : decode cJ12_addFirst 38 = .ok (.aload_n 0, 1) := dk_42 (dk_at dksJ12_addFirst_1 14 rfl rfl)
theorem dJ12_addFirst_39 : decode cJ12_addFirst 39 = .ok (.getfield 20, 3) := dk_180 0 20 (dk_at dksJ12_addFirst_1 15 rfl rfl)
theorem dJ12_addFirst_42 : decode cJ12_addFirst 42 = .ok (.if_icmp .ne 8, 3) := dk_160 0 8 (dk_at dksJ12_addFirst_1 18 rfl rfl)
theorem dJ12_addFirst_45 : decode cJ12_addFirst 45 = .ok (.aload_n 0, 1) := dk_42 (dk_at dksJ12_addFirst_1 21 rfl rfl)
theorem dJ12_addFirst_46 : decode cJ12_addFirst 46 = .ok (.iconst 1, 1) := dk_4 (dk_at dksJ12_addFirst_1 22 rfl rfl)
theorem dJ12_addFirst_47 : decode cJ12_addFirst 47 = .ok (.invokevirtual 71, 3) := dk_182 0 71 (dk_at dksJ12_addFirst_2 0 rfl rfl)
theorem dJ12_addFirst_50 : decode cJ12_addFirst 50 = .ok (.return_, 1) := dk_177 (dk_at dksJ12_addFirst_2 3 rfl rfl)
abbrev cJ12_delete : ByteArray := prog_47_method_36_code
def yJ12_delete : MethodName := ⟨RJ12, "delete", "(I)Z"⟩
def dkwJ12_delete_8 : List UInt8 := [4, 172]
abbrev dktJ12_delete_8 : List UInt8 := dkwJ12_delete_8 ++ []
def dkwJ12_delete_7 : List UInt8 := [4, 100, 44, 3, 50, 83, 44, 4, 44, 3, 21, 5, 4, 100, 184, 0, 27, 44, 42, 180, 0, 20, 1, 83]
abbrev dktJ12_delete_7 : List UInt8 := dkwJ12_delete_7 ++ dktJ12_delete_8
def dkwJ12_delete_6 : List UInt8 := [21, 7, 184, 0, 27, 167, 0, 36, 44, 27, 4, 96, 44, 27, 29, 27, 4, 96, 100, 184, 0, 27, 44, 29]
abbrev dktJ12_delete_6 : List UInt8 := dkwJ12_delete_6 ++ dktJ12_delete_7
def dkwJ12_delete_5 : List UInt8 := [21, 5, 29, 184, 0, 68, 181, 0, 20, 27, 42, 180, 0, 20, 163, 0, 17, 44, 27, 4, 96, 44, 27]
abbrev dktJ12_delete_5 : List UInt8 := dkwJ12_delete_5 ++ dktJ12_delete_6
def dkwJ12_delete_4 : List UInt8 := [96, 100, 184, 0, 27, 44, 21, 4, 1, 83, 42, 21, 4, 29, 184, 0, 74, 181, 0, 24, 3, 172, 42]
abbrev dktJ12_delete_4 : List UInt8 := dkwJ12_delete_4 ++ dktJ12_delete_5
def dkwJ12_delete_3 : List UInt8 := [27, 184, 0, 27, 44, 3, 44, 29, 4, 100, 50, 83, 44, 21, 4, 44, 21, 4, 4, 96, 21, 6, 27, 4]
abbrev dktJ12_delete_3 : List UInt8 := dkwJ12_delete_3 ++ dktJ12_delete_4
def dkwJ12_delete_2 : List UInt8 := [27, 163, 0, 19, 44, 21, 4, 44, 21, 4, 4, 96, 21, 6, 184, 0, 27, 167, 0, 36, 44, 3, 44, 4]
abbrev dktJ12_delete_2 : List UInt8 := dkwJ12_delete_2 ++ dktJ12_delete_3
def dkwJ12_delete_1 : List UInt8 := [180, 0, 20, 89, 54, 5, 27, 29, 184, 0, 127, 4, 100, 54, 7, 21, 6, 21, 7, 162, 0, 75, 21, 4]
abbrev dktJ12_delete_1 : List UInt8 := dkwJ12_delete_1 ++ dktJ12_delete_2
def dkwJ12_delete_0 : List UInt8 := [42, 180, 0, 3, 77, 44, 190, 62, 27, 42, 180, 0, 24, 89, 54, 4, 29, 184, 0, 127, 54, 6, 42]
abbrev dktJ12_delete_0 : List UInt8 := dkwJ12_delete_0 ++ dktJ12_delete_1
theorem dksJ12_delete_0 : cJ12_delete.data.toList.drop 0 = dktJ12_delete_0 := by decide +kernel
theorem dksJ12_delete_1 : cJ12_delete.data.toList.drop 23 = dktJ12_delete_1 := dk_seg dksJ12_delete_0 23 rfl rfl
theorem dksJ12_delete_2 : cJ12_delete.data.toList.drop 47 = dktJ12_delete_2 := dk_seg dksJ12_delete_1 24 rfl rfl
theorem dksJ12_delete_3 : cJ12_delete.data.toList.drop 71 = dktJ12_delete_3 := dk_seg dksJ12_delete_2 24 rfl rfl
theorem dksJ12_delete_4 : cJ12_delete.data.toList.drop 95 = dktJ12_delete_4 := dk_seg dksJ12_delete_3 24 rfl rfl
theorem dksJ12_delete_5 : cJ12_delete.data.toList.drop 118 = dktJ12_delete_5 := dk_seg dksJ12_delete_4 23 rfl rfl
theorem dksJ12_delete_6 : cJ12_delete.data.toList.drop 141 = dktJ12_delete_6 := dk_seg dksJ12_delete_5 23 rfl rfl
theorem dksJ12_delete_7 : cJ12_delete.data.toList.drop 165 = dktJ12_delete_7 := dk_seg dksJ12_delete_6 24 rfl rfl
theorem dksJ12_delete_8 : cJ12_delete.data.toList.drop 189 = dktJ12_delete_8 := dk_seg dksJ12_delete_7 24 rfl rfl
theorem dJ12_delete_0 : decode cJ12_delete 0 = .ok (.aload_n 0, 1) := dk_42 (dk_at dksJ12_delete_0 0 rfl rfl)
theorem dJ12_delete_1 : decode cJ12_delete 1 = .ok (.getfield 3, 3) := dk_180 0 3 (dk_at dksJ12_delete_0 1 rfl rfl)
theorem dJ12_delete_4 : decode cJ12_delete 4 = .ok (.astore_n 2, 1) := dk_77 (dk_at dksJ12_delete_0 4 rfl rfl)
theorem dJ12_delete_5 : decode cJ12_delete 5 = .ok (.aload_n 2, 1) := dk_44 (dk_at dksJ12_delete_0 5 rfl rfl)
theorem dJ12_delete_6 : decode cJ12_delete 6 = .ok (.arraylength, 1) := dk_190 (dk_at dksJ12_delete_0 6 rfl rfl)
theorem dJ12_delete_7 : decode cJ12_delete 7 = .ok (.istore_n 3, 1) := dk_62 (dk_at dksJ12_delete_0 7 rfl rfl)
theorem dJ12_delete_8 : decode cJ12_delete 8 = .ok (.iload_n 1, 1) := dk_27 (dk_at dksJ12_delete_0 8 rfl rfl)
theorem dJ12_delete_9 : decode cJ12_delete 9 = .ok (.aload_n 0, 1) := dk_42 (dk_at dksJ12_delete_0 9 rfl rfl)
theorem dJ12_delete_10 : decode cJ12_delete 10 = .ok (.getfield 24, 3) := dk_180 0 24 (dk_at dksJ12_delete_0 10 rfl rfl)
theorem dJ12_delete_13 : decode cJ12_delete 13 = .ok (.dup, 1) := dk_89 (dk_at dksJ12_delete_0 13 rfl rfl)
theorem dJ12_delete_14 : decode cJ12_delete 14 = .ok (.istore 4, 2) := dk_54 4 (dk_at dksJ12_delete_0 14 rfl rfl)
theorem dJ12_delete_16 : decode cJ12_delete 16 = .ok (.iload_n 3, 1) := dk_29 (dk_at dksJ12_delete_0 16 rfl rfl)
theorem dJ12_delete_17 : decode cJ12_delete 17 = .ok (.invokestatic 127, 3) := dk_184 0 127 (dk_at dksJ12_delete_0 17 rfl rfl)
theorem dJ12_delete_20 : decode cJ12_delete 20 = .ok (.istore 6, 2) := dk_54 6 (dk_at dksJ12_delete_0 20 rfl rfl)
theorem dJ12_delete_22 : decode cJ12_delete 22 = .ok (.aload_n 0, 1) := dk_42 (dk_at dksJ12_delete_0 22 rfl rfl)
theorem dJ12_delete_23 : decode cJ12_delete 23 = .ok (.getfield 20, 3) := dk_180 0 20 (dk_at dksJ12_delete_1 0 rfl rfl)
theorem dJ12_delete_26 : decode cJ12_delete 26 = .ok (.dup, 1) := dk_89 (dk_at dksJ12_delete_1 3 rfl rfl)
theorem dJ12_delete_27 : decode cJ12_delete 27 = .ok (.istore 5, 2) := dk_54 5 (dk_at dksJ12_delete_1 4 rfl rfl)
theorem dJ12_delete_29 : decode cJ12_delete 29 = .ok (.iload_n 1, 1) := dk_27 (dk_at dksJ12_delete_1 6 rfl rfl)
theorem dJ12_delete_30 : decode cJ12_delete 30 = .ok (.iload_n 3, 1) := dk_29 (dk_at dksJ12_delete_1 7 rfl rfl)
theorem dJ12_delete_31 : decode cJ12_delete 31 = .ok (.invokestatic 127, 3) := dk_184 0 127 (dk_at dksJ12_delete_1 8 rfl rfl)
theorem dJ12_delete_34 : decode cJ12_delete 34 = .ok (.iconst 1, 1) := dk_4 (dk_at dksJ12_delete_1 11 rfl rfl)
theorem dJ12_delete_35 : decode cJ12_delete 35 = .ok (.isub, 1) := dk_100 (dk_at dksJ12_delete_1 12 rfl rfl)
theorem dJ12_delete_36 : decode cJ12_delete 36 = .ok (.istore 7, 2) := dk_54 7 (dk_at dksJ12_delete_1 13 rfl rfl)
theorem dJ12_delete_38 : decode cJ12_delete 38 = .ok (.iload 6, 2) := dk_21 6 (dk_at dksJ12_delete_1 15 rfl rfl)
theorem dJ12_delete_40 : decode cJ12_delete 40 = .ok (.iload 7, 2) := dk_21 7 (dk_at dksJ12_delete_1 17 rfl rfl)
theorem dJ12_delete_42 : decode cJ12_delete 42 = .ok (.if_icmp .ge 75, 3) := dk_162 0 75 (dk_at dksJ12_delete_1 19 rfl rfl)
theorem dJ12_delete_45 : decode cJ12_delete 45 = .ok (.iload 4, 2) := dk_21 4 (dk_at dksJ12_delete_1 22 rfl rfl)
theorem dJ12_delete_47 : decode cJ12_delete 47 = .ok (.iload_n 1, 1) := dk_27 (dk_at dksJ12_delete_2 0 rfl rfl)
theorem dJ12_delete_48 : decode cJ12_delete 48 = .ok (.if_icmp .gt 19, 3) := dk_163 0 19 (dk_at dksJ12_delete_2 1 rfl rfl)
theorem dJ12_delete_51 : decode cJ12_delete 51 = .ok (.aload_n 2, 1) := dk_44 (dk_at dksJ12_delete_2 4 rfl rfl)
theorem dJ12_delete_52 : decode cJ12_delete 52 = .ok (.iload 4, 2) := dk_21 4 (dk_at dksJ12_delete_2 5 rfl rfl)
theorem dJ12_delete_54 : decode cJ12_delete 54 = .ok (.aload_n 2, 1) := dk_44 (dk_at dksJ12_delete_2 7 rfl rfl)
theorem dJ12_delete_55 : decode cJ12_delete 55 = .ok (.iload 4, 2) := dk_21 4 (dk_at dksJ12_delete_2 8 rfl rfl)
theorem dJ12_delete_57 : decode cJ12_delete 57 = .ok (.iconst 1, 1) := dk_4 (dk_at dksJ12_delete_2 10 rfl rfl)
theorem dJ12_delete_58 : decode cJ12_delete 58 = .ok (.iadd, 1) := dk_96 (dk_at dksJ12_delete_2 11 rfl rfl)
theorem dJ12_delete_59 : decode cJ12_delete 59 = .ok (.iload 6, 2) := dk_21 6 (dk_at dksJ12_delete_2 12 rfl rfl)
theorem dJ12_delete_61 : decode cJ12_delete 61 = .ok (.invokestatic 27, 3) := dk_184 0 27 (dk_at dksJ12_delete_2 14 rfl rfl)
theorem dJ12_delete_64 : decode cJ12_delete 64 = .ok (.goto 36, 3) := dk_167 0 36 (dk_at dksJ12_delete_2 17 rfl rfl)
theorem dJ12_delete_67 : decode cJ12_delete 67 = .ok (.aload_n 2, 1) := dk_44 (dk_at dksJ12_delete_2 20 rfl rfl)
theorem dJ12_delete_68 : decode cJ12_delete 68 = .ok (.iconst 0, 1) := dk_3 (dk_at dksJ12_delete_2 21 rfl rfl)
theorem dJ12_delete_69 : decode cJ12_delete 69 = .ok (.aload_n 2, 1) := dk_44 (dk_at dksJ12_delete_2 22 rfl rfl)
theorem dJ12_delete_70 : decode cJ12_delete 70 = .ok (.iconst 1, 1) := dk_4 (dk_at dksJ12_delete_2 23 rfl rfl)
theorem dJ12_delete_71 : decode cJ12_delete 71 = .ok (.iload_n 1, 1) := dk_27 (dk_at dksJ12_delete_3 0 rfl rfl)
theorem dJ12_delete_72 : decode cJ12_delete 72 = .ok (.invokestatic 27, 3) := dk_184 0 27 (dk_at dksJ12_delete_3 1 rfl rfl)
theorem dJ12_delete_75 : decode cJ12_delete 75 = .ok (.aload_n 2, 1) := dk_44 (dk_at dksJ12_delete_3 4 rfl rfl)
theorem dJ12_delete_76 : decode cJ12_delete 76 = .ok (.iconst 0, 1) := dk_3 (dk_at dksJ12_delete_3 5 rfl rfl)
theorem dJ12_delete_77 : decode cJ12_delete 77 = .ok (.aload_n 2, 1) := dk_44 (dk_at dksJ12_delete_3 6 rfl rfl)
theorem dJ12_delete_78 : decode cJ12_delete 78 = .ok (.iload_n 3, 1) := dk_29 (dk_at dksJ12_delete_3 7 rfl rfl)
theorem dJ12_delete_79 : decode cJ12_delete 79 = .ok (.iconst 1, 1) := dk_4 (dk_at dksJ12_delete_3 8 rfl rfl)
theorem dJ12_delete_80 : decode cJ12_delete 80 = .ok (.isub, 1) := dk_100 (dk_at dksJ12_delete_3 9 rfl rfl)
theorem dJ12_delete_81 : decode cJ12_delete 81 = .ok (.aaload, 1) := dk_50 (dk_at dksJ12_delete_3 10 rfl rfl)
theorem dJ12_delete_82 : decode cJ12_delete 82 = .ok (.aastore, 1) := dk_83 (dk_at dksJ12_delete_3 11 rfl rfl)
theorem dJ12_delete_83 : decode cJ12_delete 83 = .ok (.aload_n 2, 1) := dk_44 (dk_at dksJ12_delete_3 12 rfl rfl)
theorem dJ12_delete_84 : decode cJ12_delete 84 = .ok (.iload 4, 2) := dk_21 4 (dk_at dksJ12_delete_3 13 rfl rfl)
theorem dJ12_delete_86 : decode cJ12_delete 86 = .ok (.aload_n 2, 1) := dk_44 (dk_at dksJ12_delete_3 15 rfl rfl)
theorem dJ12_delete_87 : decode cJ12_delete 87 = .ok (.iload 4, 2) := dk_21 4 (dk_at dksJ12_delete_3 16 rfl rfl)
theorem dJ12_delete_89 : decode cJ12_delete 89 = .ok (.iconst 1, 1) := dk_4 (dk_at dksJ12_delete_3 18 rfl rfl)
theorem dJ12_delete_90 : decode cJ12_delete 90 = .ok (.iadd, 1) := dk_96 (dk_at dksJ12_delete_3 19 rfl rfl)
theorem dJ12_delete_91 : decode cJ12_delete 91 = .ok (.iload 6, 2) := dk_21 6 (dk_at dksJ12_delete_3 20 rfl rfl)
theorem dJ12_delete_93 : decode cJ12_delete 93 = .ok (.iload_n 1, 1) := dk_27 (dk_at dksJ12_delete_3 22 rfl rfl)
theorem dJ12_delete_94 : decode cJ12_delete 94 = .ok (.iconst 1, 1) := dk_4 (dk_at dksJ12_delete_3 23 rfl rfl)
theorem dJ12_delete_95 : decode cJ12_delete 95 = .ok (.iadd, 1) := dk_96 (dk_at dksJ12_delete_4 0 rfl rfl)
theorem dJ12_delete_96 : decode cJ12_delete 96 = .ok (.isub, 1) := dk_100 (dk_at dksJ12_delete_4 1 rfl rfl)
theorem dJ12_delete_97 : decode cJ12_delete 97 = .ok (.invokestatic 27, 3) := dk_184 0 27 (dk_at dksJ12_delete_4 2 rfl rfl)
theorem dJ12_delete_100 : decode cJ12_delete 100 = .ok (.aload_n 2, 1) := dk_44 (dk_at dksJ12_delete_4 5 rfl rfl)
theorem dJ12_delete_101 : decode cJ12_delete 101 = .ok (.iload 4, 2) := dk_21 4 (dk_at dksJ12_delete_4 6 rfl rfl)
theorem dJ12_delete_103 : decode cJ12_delete 103 = .ok (.aconst_null, 1) := dk_1 (dk_at dksJ12_delete_4 8 rfl rfl)
theorem dJ12_delete_104 : decode cJ12_delete 104 = .ok (.aastore, 1) := dk_83 (dk_at dksJ12_delete_4 9 rfl rfl)
theorem dJ12_delete_105 : decode cJ12_delete 105 = .ok (.aload_n 0, 1) := dk_42 (dk_at dksJ12_delete_4 10 rfl rfl)
theorem dJ12_delete_106 : decode cJ12_delete 106 = .ok (.iload 4, 2) := dk_21 4 (dk_at dksJ12_delete_4 11 rfl rfl)
theorem dJ12_delete_108 : decode cJ12_delete 108 = .ok (.iload_n 3, 1) := dk_29 (dk_at dksJ12_delete_4 13 rfl rfl)
theorem dJ12_delete_109 : decode cJ12_delete 109 = .ok (.invokestatic 74, 3) := dk_184 0 74 (dk_at dksJ12_delete_4 14 rfl rfl)
theorem dJ12_delete_112 : decode cJ12_delete 112 = .ok (.putfield 24, 3) := dk_181 0 24 (dk_at dksJ12_delete_4 17 rfl rfl)
theorem dJ12_delete_115 : decode cJ12_delete 115 = .ok (.iconst 0, 1) := dk_3 (dk_at dksJ12_delete_4 20 rfl rfl)
theorem dJ12_delete_116 : decode cJ12_delete 116 = .ok (.ireturn, 1) := dk_172 (dk_at dksJ12_delete_4 21 rfl rfl)
theorem dJ12_delete_117 : decode cJ12_delete 117 = .ok (.aload_n 0, 1) := dk_42 (dk_at dksJ12_delete_4 22 rfl rfl)
theorem dJ12_delete_118 : decode cJ12_delete 118 = .ok (.iload 5, 2) := dk_21 5 (dk_at dksJ12_delete_5 0 rfl rfl)
theorem dJ12_delete_120 : decode cJ12_delete 120 = .ok (.iload_n 3, 1) := dk_29 (dk_at dksJ12_delete_5 2 rfl rfl)
theorem dJ12_delete_121 : decode cJ12_delete 121 = .ok (.invokestatic 68, 3) := dk_184 0 68 (dk_at dksJ12_delete_5 3 rfl rfl)
theorem dJ12_delete_124 : decode cJ12_delete 124 = .ok (.putfield 20, 3) := dk_181 0 20 (dk_at dksJ12_delete_5 6 rfl rfl)
theorem dJ12_delete_127 : decode cJ12_delete 127 = .ok (.iload_n 1, 1) := dk_27 (dk_at dksJ12_delete_5 9 rfl rfl)
theorem dJ12_delete_128 : decode cJ12_delete 128 = .ok (.aload_n 0, 1) := dk_42 (dk_at dksJ12_delete_5 10 rfl rfl)
theorem dJ12_delete_129 : decode cJ12_delete 129 = .ok (.getfield 20, 3) := dk_180 0 20 (dk_at dksJ12_delete_5 11 rfl rfl)
theorem dJ12_delete_132 : decode cJ12_delete 132 = .ok (.if_icmp .gt 17, 3) := dk_163 0 17 (dk_at dksJ12_delete_5 14 rfl rfl)
theorem dJ12_delete_135 : decode cJ12_delete 135 = .ok (.aload_n 2, 1) := dk_44 (dk_at dksJ12_delete_5 17 rfl rfl)
theorem dJ12_delete_136 : decode cJ12_delete 136 = .ok (.iload_n 1, 1) := dk_27 (dk_at dksJ12_delete_5 18 rfl rfl)
theorem dJ12_delete_137 : decode cJ12_delete 137 = .ok (.iconst 1, 1) := dk_4 (dk_at dksJ12_delete_5 19 rfl rfl)
theorem dJ12_delete_138 : decode cJ12_delete 138 = .ok (.iadd, 1) := dk_96 (dk_at dksJ12_delete_5 20 rfl rfl)
theorem dJ12_delete_139 : decode cJ12_delete 139 = .ok (.aload_n 2, 1) := dk_44 (dk_at dksJ12_delete_5 21 rfl rfl)
theorem dJ12_delete_140 : decode cJ12_delete 140 = .ok (.iload_n 1, 1) := dk_27 (dk_at dksJ12_delete_5 22 rfl rfl)
theorem dJ12_delete_141 : decode cJ12_delete 141 = .ok (.iload 7, 2) := dk_21 7 (dk_at dksJ12_delete_6 0 rfl rfl)
theorem dJ12_delete_143 : decode cJ12_delete 143 = .ok (.invokestatic 27, 3) := dk_184 0 27 (dk_at dksJ12_delete_6 2 rfl rfl)
theorem dJ12_delete_146 : decode cJ12_delete 146 = .ok (.goto 36, 3) := dk_167 0 36 (dk_at dksJ12_delete_6 5 rfl rfl)
theorem dJ12_delete_149 : decode cJ12_delete 149 = .ok (.aload_n 2, 1) := dk_44 (dk_at dksJ12_delete_6 8 rfl rfl)
theorem dJ12_delete_150 : decode cJ12_delete 150 = .ok (.iload_n 1, 1) := dk_27 (dk_at dksJ12_delete_6 9 rfl rfl)
theorem dJ12_delete_151 : decode cJ12_delete 151 = .ok (.iconst 1, 1) := dk_4 (dk_at dksJ12_delete_6 10 rfl rfl)
theorem dJ12_delete_152 : decode cJ12_delete 152 = .ok (.iadd, 1) := dk_96 (dk_at dksJ12_delete_6 11 rfl rfl)
theorem dJ12_delete_153 : decode cJ12_delete 153 = .ok (.aload_n 2, 1) := dk_44 (dk_at dksJ12_delete_6 12 rfl rfl)
theorem dJ12_delete_154 : decode cJ12_delete 154 = .ok (.iload_n 1, 1) := dk_27 (dk_at dksJ12_delete_6 13 rfl rfl)
theorem dJ12_delete_155 : decode cJ12_delete 155 = .ok (.iload_n 3, 1) := dk_29 (dk_at dksJ12_delete_6 14 rfl rfl)
theorem dJ12_delete_156 : decode cJ12_delete 156 = .ok (.iload_n 1, 1) := dk_27 (dk_at dksJ12_delete_6 15 rfl rfl)
theorem dJ12_delete_157 : decode cJ12_delete 157 = .ok (.iconst 1, 1) := dk_4 (dk_at dksJ12_delete_6 16 rfl rfl)
theorem dJ12_delete_158 : decode cJ12_delete 158 = .ok (.iadd, 1) := dk_96 (dk_at dksJ12_delete_6 17 rfl rfl)
theorem dJ12_delete_159 : decode cJ12_delete 159 = .ok (.isub, 1) := dk_100 (dk_at dksJ12_delete_6 18 rfl rfl)
theorem dJ12_delete_160 : decode cJ12_delete 160 = .ok (.invokestatic 27, 3) := dk_184 0 27 (dk_at dksJ12_delete_6 19 rfl rfl)
theorem dJ12_delete_163 : decode cJ12_delete 163 = .ok (.aload_n 2, 1) := dk_44 (dk_at dksJ12_delete_6 22 rfl rfl)
theorem dJ12_delete_164 : decode cJ12_delete 164 = .ok (.iload_n 3, 1) := dk_29 (dk_at dksJ12_delete_6 23 rfl rfl)
theorem dJ12_delete_165 : decode cJ12_delete 165 = .ok (.iconst 1, 1) := dk_4 (dk_at dksJ12_delete_7 0 rfl rfl)
theorem dJ12_delete_166 : decode cJ12_delete 166 = .ok (.isub, 1) := dk_100 (dk_at dksJ12_delete_7 1 rfl rfl)
theorem dJ12_delete_167 : decode cJ12_delete 167 = .ok (.aload_n 2, 1) := dk_44 (dk_at dksJ12_delete_7 2 rfl rfl)
theorem dJ12_delete_168 : decode cJ12_delete 168 = .ok (.iconst 0, 1) := dk_3 (dk_at dksJ12_delete_7 3 rfl rfl)
theorem dJ12_delete_169 : decode cJ12_delete 169 = .ok (.aaload, 1) := dk_50 (dk_at dksJ12_delete_7 4 rfl rfl)
theorem dJ12_delete_170 : decode cJ12_delete 170 = .ok (.aastore, 1) := dk_83 (dk_at dksJ12_delete_7 5 rfl rfl)
theorem dJ12_delete_171 : decode cJ12_delete 171 = .ok (.aload_n 2, 1) := dk_44 (dk_at dksJ12_delete_7 6 rfl rfl)
theorem dJ12_delete_172 : decode cJ12_delete 172 = .ok (.iconst 1, 1) := dk_4 (dk_at dksJ12_delete_7 7 rfl rfl)
theorem dJ12_delete_173 : decode cJ12_delete 173 = .ok (.aload_n 2, 1) := dk_44 (dk_at dksJ12_delete_7 8 rfl rfl)
theorem dJ12_delete_174 : decode cJ12_delete 174 = .ok (.iconst 0, 1) := dk_3 (dk_at dksJ12_delete_7 9 rfl rfl)
theorem dJ12_delete_175 : decode cJ12_delete 175 = .ok (.iload 5, 2) := dk_21 5 (dk_at dksJ12_delete_7 10 rfl rfl)
theorem dJ12_delete_177 : decode cJ12_delete 177 = .ok (.iconst 1, 1) := dk_4 (dk_at dksJ12_delete_7 12 rfl rfl)
theorem dJ12_delete_178 : decode cJ12_delete 178 = .ok (.isub, 1) := dk_100 (dk_at dksJ12_delete_7 13 rfl rfl)
theorem dJ12_delete_179 : decode cJ12_delete 179 = .ok (.invokestatic 27, 3) := dk_184 0 27 (dk_at dksJ12_delete_7 14 rfl rfl)
theorem dJ12_delete_182 : decode cJ12_delete 182 = .ok (.aload_n 2, 1) := dk_44 (dk_at dksJ12_delete_7 17 rfl rfl)
theorem dJ12_delete_183 : decode cJ12_delete 183 = .ok (.aload_n 0, 1) := dk_42 (dk_at dksJ12_delete_7 18 rfl rfl)
theorem dJ12_delete_184 : decode cJ12_delete 184 = .ok (.getfield 20, 3) := dk_180 0 20 (dk_at dksJ12_delete_7 19 rfl rfl)
theorem dJ12_delete_187 : decode cJ12_delete 187 = .ok (.aconst_null, 1) := dk_1 (dk_at dksJ12_delete_7 22 rfl rfl)
theorem dJ12_delete_188 : decode cJ12_delete 188 = .ok (.aastore, 1) := dk_83 (dk_at dksJ12_delete_7 23 rfl rfl)
theorem dJ12_delete_189 : decode cJ12_delete 189 = .ok (.iconst 1, 1) := dk_4 (dk_at dksJ12_delete_8 0 rfl rfl)
theorem dJ12_delete_190 : decode cJ12_delete 190 = .ok (.ireturn, 1) := dk_172 (dk_at dksJ12_delete_8 1 rfl rfl)
theorem q141 : (Jvm.Cond.initialized "java/util/ArrayDeque") ∈ lw_all := lw_g (lw_at lw_m1 19 rfl) rfl
theorem q237 : (Jvm.Cond.selects "java/util/ArrayDeque" ({ cls := "java/lang/Object", name := "getClass", desc := "()Ljava/lang/Class;" } : Jvm.MethodName) ({ cls := "java/lang/Object", name := "getClass", desc := "()Ljava/lang/Class;" } : Jvm.MethodName)) ∈ lw_all := lw_g (lw_at lw_m1 115 rfl) rfl
theorem q457 : (Jvm.Cond.instantiable "java/util/ArrayDeque" (3 : Nat)) ∈ lw_all := lw_g (lw_at lw_m2 95 rfl) rfl
theorem q459 : (Jvm.Cond.instanceMethod ({ cls := "java/util/ArrayDeque", name := "<init>", desc := "()V" } : Jvm.MethodName)) ∈ lw_all := lw_g (lw_at lw_m2 97 rfl) rfl
theorem q460 : (Jvm.Cond.code ({ cls := "java/util/ArrayDeque", name := "<init>", desc := "()V" } : Jvm.MethodName) prog_47_method_3_code (1 : Nat) (Option.none : Option Jvm.ClassFile.FieldType)) ∈ lw_all := lw_g (lw_at lw_m2 98 rfl) rfl
theorem q461 : (Jvm.Cond.methodLink "java/util/ArrayDeque" (42 : Nat) ({ cls := "java/util/AbstractCollection", name := "<init>", desc := "()V" } : Jvm.MethodName)) ∈ lw_all := lw_g (lw_at lw_m2 99 rfl) rfl
theorem q462 : (Jvm.Cond.classLink "java/util/ArrayDeque" (47 : Nat) "java/lang/Object") ∈ lw_all := lw_g (lw_at lw_m2 100 rfl) rfl
theorem q463 : (Jvm.Cond.fieldLink "java/util/ArrayDeque" (3 : Nat) "java/util/ArrayDeque" "elements" "[Ljava/lang/Object;") ∈ lw_all := lw_g (lw_at lw_m2 101 rfl) rfl
theorem q466 : (Jvm.Cond.fieldLink "java/util/ArrayDeque" (24 : Nat) "java/util/ArrayDeque" "head" "I") ∈ lw_all := lw_g (lw_at lw_m2 104 rfl) rfl
theorem q467 : (Jvm.Cond.fieldLink "java/util/ArrayDeque" (20 : Nat) "java/util/ArrayDeque" "tail" "I") ∈ lw_all := lw_g (lw_at lw_m2 105 rfl) rfl
theorem q468 : (Jvm.Cond.lays "java/util/ArrayDeque" "java/util/ArrayDeque" "elements" "[Ljava/lang/Object;") ∈ lw_all := lw_g (lw_at lw_m2 106 rfl) rfl
theorem q469 : (Jvm.Cond.soleField "java/util/ArrayDeque" "elements") ∈ lw_all := lw_g (lw_at lw_m2 107 rfl) rfl
theorem q470 : (Jvm.Cond.lays "java/util/ArrayDeque" "java/util/ArrayDeque" "head" "I") ∈ lw_all := lw_g (lw_at lw_m2 108 rfl) rfl
theorem q471 : (Jvm.Cond.soleField "java/util/ArrayDeque" "head") ∈ lw_all := lw_g (lw_at lw_m2 109 rfl) rfl
theorem q472 : (Jvm.Cond.lays "java/util/ArrayDeque" "java/util/ArrayDeque" "tail" "I") ∈ lw_all := lw_g (lw_at lw_m2 110 rfl) rfl
theorem q473 : (Jvm.Cond.soleField "java/util/ArrayDeque" "tail") ∈ lw_all := lw_g (lw_at lw_m2 111 rfl) rfl
theorem q474 : (Jvm.Cond.superclass "java/util/ArrayDeque" "java/util/AbstractCollection") ∈ lw_all := lw_g (lw_at lw_m2 112 rfl) rfl
theorem q1092 : (Jvm.Cond.static ({ cls := "java/util/ArrayDeque", name := "nonNullElementAt", desc := "([Ljava/lang/Object;I)Ljava/lang/Object;" } : Jvm.MethodName)) ∈ lw_all := lw_g (lw_at lw_m5 10 rfl) rfl
theorem q1093 : (Jvm.Cond.code ({ cls := "java/util/ArrayDeque", name := "nonNullElementAt", desc := "([Ljava/lang/Object;I)Ljava/lang/Object;" } : Jvm.MethodName) prog_47_method_11_code (3 : Nat) (Option.some (Jvm.ClassFile.FieldType.object "java/lang/Object"))) ∈ lw_all := lw_g (lw_at lw_m5 11 rfl) rfl
theorem q1095 : (Jvm.Cond.static ({ cls := "java/util/ArrayDeque", name := "inc", desc := "(II)I" } : Jvm.MethodName)) ∈ lw_all := lw_g (lw_at lw_m5 13 rfl) rfl
theorem q1096 : (Jvm.Cond.code ({ cls := "java/util/ArrayDeque", name := "inc", desc := "(II)I" } : Jvm.MethodName) prog_47_method_6_code (2 : Nat) (Option.some Jvm.ClassFile.FieldType.int)) ∈ lw_all := lw_g (lw_at lw_m5 14 rfl) rfl
theorem q1684 : (Jvm.Cond.instanceMethod ({ cls := "java/util/ArrayDeque", name := "clear", desc := "()V" } : Jvm.MethodName)) ∈ lw_all := lw_g (lw_at lw_m7 122 rfl) rfl
theorem q1685 : (Jvm.Cond.selects "java/util/ArrayDeque" ({ cls := "java/util/ArrayDeque", name := "clear", desc := "()V" } : Jvm.MethodName) ({ cls := "java/util/ArrayDeque", name := "clear", desc := "()V" } : Jvm.MethodName)) ∈ lw_all := lw_g (lw_at lw_m7 123 rfl) rfl
theorem q1686 : (Jvm.Cond.code ({ cls := "java/util/ArrayDeque", name := "clear", desc := "()V" } : Jvm.MethodName) prog_47_method_53_code (1 : Nat) (Option.none : Option Jvm.ClassFile.FieldType)) ∈ lw_all := lw_g (lw_at lw_m7 124 rfl) rfl
theorem q1687 : (Jvm.Cond.methodLink "java/util/ArrayDeque" (181 : Nat) ({ cls := "java/util/ArrayDeque", name := "circularClear", desc := "([Ljava/lang/Object;II)V" } : Jvm.MethodName)) ∈ lw_all := lw_g (lw_at lw_m7 125 rfl) rfl
theorem q1688 : (Jvm.Cond.static ({ cls := "java/util/ArrayDeque", name := "circularClear", desc := "([Ljava/lang/Object;II)V" } : Jvm.MethodName)) ∈ lw_all := lw_g (lw_at lw_m7 126 rfl) rfl
theorem q1689 : (Jvm.Cond.code ({ cls := "java/util/ArrayDeque", name := "circularClear", desc := "([Ljava/lang/Object;II)V" } : Jvm.MethodName) prog_47_method_54_code (4 : Nat) (Option.none : Option Jvm.ClassFile.FieldType)) ∈ lw_all := lw_g (lw_at lw_m7 127 rfl) rfl
theorem q1691 : (Jvm.Cond.instanceMethod ({ cls := "java/util/ArrayDeque", name := "iterator", desc := "()Ljava/util/Iterator;" } : Jvm.MethodName)) ∈ lw_all := lw_g (lw_at lw_m7 129 rfl) rfl
theorem q1692 : (Jvm.Cond.selects "java/util/ArrayDeque" ({ cls := "java/util/ArrayDeque", name := "iterator", desc := "()Ljava/util/Iterator;" } : Jvm.MethodName) ({ cls := "java/util/ArrayDeque", name := "iterator", desc := "()Ljava/util/Iterator;" } : Jvm.MethodName)) ∈ lw_all := lw_g (lw_at lw_m7 130 rfl) rfl
theorem q1693 : (Jvm.Cond.code ({ cls := "java/util/ArrayDeque", name := "iterator", desc := "()Ljava/util/Iterator;" } : Jvm.MethodName) prog_47_method_39_code (1 : Nat) (Option.some (Jvm.ClassFile.FieldType.object "java/util/Iterator"))) ∈ lw_all := lw_g (lw_at lw_m7 131 rfl) rfl
theorem q1694 : (Jvm.Cond.classLink "java/util/ArrayDeque" (131 : Nat) "java/util/ArrayDeque$DeqIterator") ∈ lw_all := lw_g (lw_at lw_m7 132 rfl) rfl
theorem q1696 : (Jvm.Cond.methodLink "java/util/ArrayDeque" (133 : Nat) ({ cls := "java/util/ArrayDeque$DeqIterator", name := "<init>", desc := "(Ljava/util/ArrayDeque;)V" } : Jvm.MethodName)) ∈ lw_all := lw_g (lw_at lw_m7 134 rfl) rfl
theorem q1701 : (Jvm.Cond.instanceMethod ({ cls := "java/util/ArrayDeque", name := "size", desc := "()I" } : Jvm.MethodName)) ∈ lw_all := lw_g (lw_at lw_m7 139 rfl) rfl
theorem q1702 : (Jvm.Cond.selects "java/util/ArrayDeque" ({ cls := "java/util/ArrayDeque", name := "size", desc := "()I" } : Jvm.MethodName) ({ cls := "java/util/ArrayDeque", name := "size", desc := "()I" } : Jvm.MethodName)) ∈ lw_all := lw_g (lw_at lw_m7 140 rfl) rfl
theorem q1703 : (Jvm.Cond.code ({ cls := "java/util/ArrayDeque", name := "size", desc := "()I" } : Jvm.MethodName) prog_47_method_37_code (1 : Nat) (Option.some Jvm.ClassFile.FieldType.int)) ∈ lw_all := lw_g (lw_at lw_m7 141 rfl) rfl
theorem q1704 : (Jvm.Cond.methodLink "java/util/ArrayDeque" (127 : Nat) ({ cls := "java/util/ArrayDeque", name := "sub", desc := "(III)I" } : Jvm.MethodName)) ∈ lw_all := lw_g (lw_at lw_m7 142 rfl) rfl
theorem q1705 : (Jvm.Cond.static ({ cls := "java/util/ArrayDeque", name := "sub", desc := "(III)I" } : Jvm.MethodName)) ∈ lw_all := lw_g (lw_at lw_m7 143 rfl) rfl
theorem q1706 : (Jvm.Cond.code ({ cls := "java/util/ArrayDeque", name := "sub", desc := "(III)I" } : Jvm.MethodName) prog_47_method_9_code (3 : Nat) (Option.some Jvm.ClassFile.FieldType.int)) ∈ lw_all := lw_g (lw_at lw_m7 144 rfl) rfl
theorem q1722 : (Jvm.Cond.instanceMethod ({ cls := "java/util/ArrayDeque", name := "addLast", desc := "(Ljava/lang/Object;)V" } : Jvm.MethodName)) ∈ lw_all := lw_g (lw_at lw_m7 160 rfl) rfl
theorem q1723 : (Jvm.Cond.selects "java/util/ArrayDeque" ({ cls := "java/util/ArrayDeque", name := "addLast", desc := "(Ljava/lang/Object;)V" } : Jvm.MethodName) ({ cls := "java/util/ArrayDeque", name := "addLast", desc := "(Ljava/lang/Object;)V" } : Jvm.MethodName)) ∈ lw_all := lw_g (lw_at lw_m7 161 rfl) rfl
theorem q1724 : (Jvm.Cond.code ({ cls := "java/util/ArrayDeque", name := "addLast", desc := "(Ljava/lang/Object;)V" } : Jvm.MethodName) prog_47_method_13_code (3 : Nat) (Option.none : Option Jvm.ClassFile.FieldType)) ∈ lw_all := lw_g (lw_at lw_m7 162 rfl) rfl
theorem q1725 : (Jvm.Cond.methodLink "java/util/ArrayDeque" (74 : Nat) ({ cls := "java/util/ArrayDeque", name := "inc", desc := "(II)I" } : Jvm.MethodName)) ∈ lw_all := lw_g (lw_at lw_m7 163 rfl) rfl
theorem q1726 : (Jvm.Cond.methodLink "java/util/ArrayDeque" (71 : Nat) ({ cls := "java/util/ArrayDeque", name := "grow", desc := "(I)V" } : Jvm.MethodName)) ∈ lw_all := lw_g (lw_at lw_m7 164 rfl) rfl
theorem q1727 : (Jvm.Cond.privateMethod ({ cls := "java/util/ArrayDeque", name := "grow", desc := "(I)V" } : Jvm.MethodName)) ∈ lw_tbl := lw_at lw_m7 165 rfl
theorem q1728 : (Jvm.Cond.instanceMethod ({ cls := "java/util/ArrayDeque", name := "grow", desc := "(I)V" } : Jvm.MethodName)) ∈ lw_all := lw_g (lw_at lw_m7 166 rfl) rfl
theorem q1729 : (Jvm.Cond.code ({ cls := "java/util/ArrayDeque", name := "grow", desc := "(I)V" } : Jvm.MethodName) prog_47_method_1_code (9 : Nat) (Option.none : Option Jvm.ClassFile.FieldType)) ∈ lw_all := lw_g (lw_at lw_m7 167 rfl) rfl
theorem q1730 : (Jvm.Cond.constant "java/util/ArrayDeque" (9 : Nat) (2147483639 : Int32)) ∈ lw_all := lw_g (lw_at lw_m7 168 rfl) rfl
theorem q1731 : (Jvm.Cond.methodLink "java/util/ArrayDeque" (10 : Nat) ({ cls := "java/util/ArrayDeque", name := "newCapacity", desc := "(II)I" } : Jvm.MethodName)) ∈ lw_all := lw_g (lw_at lw_m7 169 rfl) rfl
theorem q1732 : (Jvm.Cond.privateMethod ({ cls := "java/util/ArrayDeque", name := "newCapacity", desc := "(II)I" } : Jvm.MethodName)) ∈ lw_tbl := lw_at lw_m7 170 rfl
theorem q1733 : (Jvm.Cond.instanceMethod ({ cls := "java/util/ArrayDeque", name := "newCapacity", desc := "(II)I" } : Jvm.MethodName)) ∈ lw_all := lw_g (lw_at lw_m7 171 rfl) rfl
theorem q1734 : (Jvm.Cond.code ({ cls := "java/util/ArrayDeque", name := "newCapacity", desc := "(II)I" } : Jvm.MethodName) prog_47_method_2_code (5 : Nat) (Option.some Jvm.ClassFile.FieldType.int)) ∈ lw_all := lw_g (lw_at lw_m7 172 rfl) rfl
theorem q1735 : (Jvm.Cond.constant "java/util/ArrayDeque" (41 : Nat) (2147483647 : Int32)) ∈ lw_all := lw_g (lw_at lw_m7 173 rfl) rfl
theorem q1736 : (Jvm.Cond.methodLink "java/util/ArrayDeque" (14 : Nat) ({ cls := "java/util/Arrays", name := "copyOf", desc := "([Ljava/lang/Object;I)[Ljava/lang/Object;" } : Jvm.MethodName)) ∈ lw_all := lw_g (lw_at lw_m7 174 rfl) rfl
theorem q1745 : (Jvm.Cond.methodLink "java/util/ArrayDeque" (27 : Nat) ({ cls := "java/lang/System", name := "arraycopy", desc := "(Ljava/lang/Object;ILjava/lang/Object;II)V" } : Jvm.MethodName)) ∈ lw_all := lw_g (lw_at lw_m7 183 rfl) rfl
theorem q1882 : (Jvm.Cond.instanceMethod ({ cls := "java/util/ArrayDeque", name := "removeLast", desc := "()Ljava/lang/Object;" } : Jvm.MethodName)) ∈ lw_all := lw_g (lw_at lw_m8 80 rfl) rfl
theorem q1883 : (Jvm.Cond.selects "java/util/ArrayDeque" ({ cls := "java/util/ArrayDeque", name := "removeLast", desc := "()Ljava/lang/Object;" } : Jvm.MethodName) ({ cls := "java/util/ArrayDeque", name := "removeLast", desc := "()Ljava/lang/Object;" } : Jvm.MethodName)) ∈ lw_all := lw_g (lw_at lw_m8 81 rfl) rfl
theorem q1884 : (Jvm.Cond.code ({ cls := "java/util/ArrayDeque", name := "removeLast", desc := "()Ljava/lang/Object;" } : Jvm.MethodName) prog_47_method_19_code (2 : Nat) (Option.some (Jvm.ClassFile.FieldType.object "java/lang/Object"))) ∈ lw_all := lw_g (lw_at lw_m8 82 rfl) rfl
theorem q1885 : (Jvm.Cond.methodLink "java/util/ArrayDeque" (100 : Nat) ({ cls := "java/util/ArrayDeque", name := "pollLast", desc := "()Ljava/lang/Object;" } : Jvm.MethodName)) ∈ lw_all := lw_g (lw_at lw_m8 83 rfl) rfl
theorem q1886 : (Jvm.Cond.instanceMethod ({ cls := "java/util/ArrayDeque", name := "pollLast", desc := "()Ljava/lang/Object;" } : Jvm.MethodName)) ∈ lw_all := lw_g (lw_at lw_m8 84 rfl) rfl
theorem q1887 : (Jvm.Cond.selects "java/util/ArrayDeque" ({ cls := "java/util/ArrayDeque", name := "pollLast", desc := "()Ljava/lang/Object;" } : Jvm.MethodName) ({ cls := "java/util/ArrayDeque", name := "pollLast", desc := "()Ljava/lang/Object;" } : Jvm.MethodName)) ∈ lw_all := lw_g (lw_at lw_m8 85 rfl) rfl
theorem q1888 : (Jvm.Cond.code ({ cls := "java/util/ArrayDeque", name := "pollLast", desc := "()Ljava/lang/Object;" } : Jvm.MethodName) prog_47_method_21_code (4 : Nat) (Option.some (Jvm.ClassFile.FieldType.object "java/lang/Object"))) ∈ lw_all := lw_g (lw_at lw_m8 86 rfl) rfl
theorem q1889 : (Jvm.Cond.methodLink "java/util/ArrayDeque" (68 : Nat) ({ cls := "java/util/ArrayDeque", name := "dec", desc := "(II)I" } : Jvm.MethodName)) ∈ lw_all := lw_g (lw_at lw_m8 87 rfl) rfl
theorem q1890 : (Jvm.Cond.static ({ cls := "java/util/ArrayDeque", name := "dec", desc := "(II)I" } : Jvm.MethodName)) ∈ lw_all := lw_g (lw_at lw_m8 88 rfl) rfl
theorem q1891 : (Jvm.Cond.code ({ cls := "java/util/ArrayDeque", name := "dec", desc := "(II)I" } : Jvm.MethodName) prog_47_method_7_code (2 : Nat) (Option.some Jvm.ClassFile.FieldType.int)) ∈ lw_all := lw_g (lw_at lw_m8 89 rfl) rfl
theorem q1892 : (Jvm.Cond.methodLink "java/util/ArrayDeque" (103 : Nat) ({ cls := "java/util/ArrayDeque", name := "elementAt", desc := "([Ljava/lang/Object;I)Ljava/lang/Object;" } : Jvm.MethodName)) ∈ lw_all := lw_g (lw_at lw_m8 90 rfl) rfl
theorem q1893 : (Jvm.Cond.static ({ cls := "java/util/ArrayDeque", name := "elementAt", desc := "([Ljava/lang/Object;I)Ljava/lang/Object;" } : Jvm.MethodName)) ∈ lw_all := lw_g (lw_at lw_m8 91 rfl) rfl
theorem q1894 : (Jvm.Cond.code ({ cls := "java/util/ArrayDeque", name := "elementAt", desc := "([Ljava/lang/Object;I)Ljava/lang/Object;" } : Jvm.MethodName) prog_47_method_10_code (2 : Nat) (Option.some (Jvm.ClassFile.FieldType.object "java/lang/Object"))) ∈ lw_all := lw_g (lw_at lw_m8 92 rfl) rfl
theorem q1895 : (Jvm.Cond.classLink "java/util/ArrayDeque" (97 : Nat) "java/util/NoSuchElementException") ∈ lw_all := lw_g (lw_at lw_m8 93 rfl) rfl
theorem q1896 : (Jvm.Cond.methodLink "java/util/ArrayDeque" (99 : Nat) ({ cls := "java/util/NoSuchElementException", name := "<init>", desc := "()V" } : Jvm.MethodName)) ∈ lw_all := lw_g (lw_at lw_m8 94 rfl) rfl
theorem q1919 : (Jvm.Cond.instanceMethod ({ cls := "java/util/ArrayDeque", name := "addFirst", desc := "(Ljava/lang/Object;)V" } : Jvm.MethodName)) ∈ lw_all := lw_g (lw_at lw_m8 117 rfl) rfl
theorem q1920 : (Jvm.Cond.selects "java/util/ArrayDeque" ({ cls := "java/util/ArrayDeque", name := "addFirst", desc := "(Ljava/lang/Object;)V" } : Jvm.MethodName) ({ cls := "java/util/ArrayDeque", name := "addFirst", desc := "(Ljava/lang/Object;)V" } : Jvm.MethodName)) ∈ lw_all := lw_g (lw_at lw_m8 118 rfl) rfl
theorem q1921 : (Jvm.Cond.code ({ cls := "java/util/ArrayDeque", name := "addFirst", desc := "(Ljava/lang/Object;)V" } : Jvm.MethodName) prog_47_method_12_code (3 : Nat) (Option.none : Option Jvm.ClassFile.FieldType)) ∈ lw_all := lw_g (lw_at lw_m8 119 rfl) rfl
theorem q2037 : (Jvm.Cond.instanceMethod ({ cls := "java/util/ArrayDeque", name := "delete", desc := "(I)Z" } : Jvm.MethodName)) ∈ lw_all := lw_g (lw_at lw_m8 235 rfl) rfl
theorem q2038 : (Jvm.Cond.selects "java/util/ArrayDeque" ({ cls := "java/util/ArrayDeque", name := "delete", desc := "(I)Z" } : Jvm.MethodName) ({ cls := "java/util/ArrayDeque", name := "delete", desc := "(I)Z" } : Jvm.MethodName)) ∈ lw_all := lw_g (lw_at lw_m8 236 rfl) rfl
theorem q2039 : (Jvm.Cond.code ({ cls := "java/util/ArrayDeque", name := "delete", desc := "(I)Z" } : Jvm.MethodName) prog_47_method_36_code (8 : Nat) (Option.some Jvm.ClassFile.FieldType.boolean)) ∈ lw_all := lw_g (lw_at lw_m8 237 rfl) rfl
theorem q2959 : (Jvm.Cond.selects "java/util/ArrayDeque" ({ cls := "java/util/AbstractCollection", name := "size", desc := "()I" } : Jvm.MethodName) ({ cls := "java/util/ArrayDeque", name := "size", desc := "()I" } : Jvm.MethodName)) ∈ lw_all := lw_g (lw_at lw_m12 197 rfl) rfl
theorem q2977 : (Jvm.Cond.castable "java/util/ArrayDeque" "java/lang/Object") ∈ lw_tbl := lw_at lw_m12 215 rfl

abbrev cJ13_init : ByteArray := prog_51_method_4_code
def yJ13_init : MethodName := ⟨RJ13, "<init>", "()V"⟩
def dkwJ13_init_1 : List UInt8 := [181, 0, 24, 177]
abbrev dktJ13_init_1 : List UInt8 := dkwJ13_init_1 ++ []
def dkwJ13_init_0 : List UInt8 := [42, 183, 0, 21, 42, 3, 181, 0, 7, 42, 3, 181, 0, 24, 42, 16, 64, 182, 0, 27, 42, 3]
abbrev dktJ13_init_0 : List UInt8 := dkwJ13_init_0 ++ dktJ13_init_1
theorem dksJ13_init_0 : cJ13_init.data.toList.drop 0 = dktJ13_init_0 := by decide +kernel
theorem dksJ13_init_1 : cJ13_init.data.toList.drop 22 = dktJ13_init_1 := dk_seg dksJ13_init_0 22 rfl rfl
theorem dJ13_init_0 : decode cJ13_init 0 = .ok (.aload_n 0, 1) := dk_42 (dk_at dksJ13_init_0 0 rfl rfl)
theorem dJ13_init_1 : decode cJ13_init 1 = .ok (.invokespecial 21, 3) := dk_183 0 21 (dk_at dksJ13_init_0 1 rfl rfl)
theorem dJ13_init_4 : decode cJ13_init 4 = .ok (.aload_n 0, 1) := dk_42 (dk_at dksJ13_init_0 4 rfl rfl)
theorem dJ13_init_5 : decode cJ13_init 5 = .ok (.iconst 0, 1) := dk_3 (dk_at dksJ13_init_0 5 rfl rfl)
theorem dJ13_init_6 : decode cJ13_init 6 = .ok (.putfield 7, 3) := dk_181 0 7 (dk_at dksJ13_init_0 6 rfl rfl)
theorem dJ13_init_9 : decode cJ13_init 9 = .ok (.aload_n 0, 1) := dk_42 (dk_at dksJ13_init_0 9 rfl rfl)
theorem dJ13_init_10 : decode cJ13_init 10 = .ok (.iconst 0, 1) := dk_3 (dk_at dksJ13_init_0 10 rfl rfl)
theorem dJ13_init_11 : decode cJ13_init 11 = .ok (.putfield 24, 3) := dk_181 0 24 (dk_at dksJ13_init_0 11 rfl rfl)
theorem dJ13_init_14 : decode cJ13_init 14 = .ok (.aload_n 0, 1) := dk_42 (dk_at dksJ13_init_0 14 rfl rfl)
theorem dJ13_init_15 : decode cJ13_init 15 = .ok (.bipush 64, 2) := dk_16 64 (dk_at dksJ13_init_0 15 rfl rfl)
theorem dJ13_init_17 : decode cJ13_init 17 = .ok (.invokevirtual 27, 3) := dk_182 0 27 (dk_at dksJ13_init_0 17 rfl rfl)
theorem dJ13_init_20 : decode cJ13_init 20 = .ok (.aload_n 0, 1) := dk_42 (dk_at dksJ13_init_0 20 rfl rfl)
theorem dJ13_init_21 : decode cJ13_init 21 = .ok (.iconst 0, 1) := dk_3 (dk_at dksJ13_init_0 21 rfl rfl)
theorem dJ13_init_22 : decode cJ13_init 22 = .ok (.putfield 24, 3) := dk_181 0 24 (dk_at dksJ13_init_1 0 rfl rfl)
theorem dJ13_init_25 : decode cJ13_init 25 = .ok (.return_, 1) := dk_177 (dk_at dksJ13_init_1 3 rfl rfl)
abbrev cJ13_initWords : ByteArray := prog_51_method_6_code
def yJ13_initWords : MethodName := ⟨RJ13, "initWords", "(I)V"⟩
def dkwJ13_initWords_0 : List UInt8 := [42, 27, 4, 100, 184, 0, 52, 4, 96, 188, 11, 181, 0, 11, 177]
abbrev dktJ13_initWords_0 : List UInt8 := dkwJ13_initWords_0 ++ []
theorem dksJ13_initWords_0 : cJ13_initWords.data.toList.drop 0 = dktJ13_initWords_0 := by decide +kernel
theorem dJ13_initWords_0 : decode cJ13_initWords 0 = .ok (.aload_n 0, 1) := dk_42 (dk_at dksJ13_initWords_0 0 rfl rfl)
theorem dJ13_initWords_1 : decode cJ13_initWords 1 = .ok (.iload_n 1, 1) := dk_27 (dk_at dksJ13_initWords_0 1 rfl rfl)
theorem dJ13_initWords_2 : decode cJ13_initWords 2 = .ok (.iconst 1, 1) := dk_4 (dk_at dksJ13_initWords_0 2 rfl rfl)
theorem dJ13_initWords_3 : decode cJ13_initWords 3 = .ok (.isub, 1) := dk_100 (dk_at dksJ13_initWords_0 3 rfl rfl)
theorem dJ13_initWords_4 : decode cJ13_initWords 4 = .ok (.invokestatic 52, 3) := dk_184 0 52 (dk_at dksJ13_initWords_0 4 rfl rfl)
theorem dJ13_initWords_7 : decode cJ13_initWords 7 = .ok (.iconst 1, 1) := dk_4 (dk_at dksJ13_initWords_0 7 rfl rfl)
theorem dJ13_initWords_8 : decode cJ13_initWords 8 = .ok (.iadd, 1) := dk_96 (dk_at dksJ13_initWords_0 8 rfl rfl)
theorem dJ13_initWords_9 : decode cJ13_initWords 9 = .ok (.newarray .long, 2) := dk_188_11 (dk_at dksJ13_initWords_0 9 rfl rfl)
theorem dJ13_initWords_11 : decode cJ13_initWords 11 = .ok (.putfield 11, 3) := dk_181 0 11 (dk_at dksJ13_initWords_0 11 rfl rfl)
theorem dJ13_initWords_14 : decode cJ13_initWords 14 = .ok (.return_, 1) := dk_177 (dk_at dksJ13_initWords_0 14 rfl rfl)
abbrev cJ13_wordIndex : ByteArray := prog_51_method_1_code
def yJ13_wordIndex : MethodName := ⟨RJ13, "wordIndex", "(I)I"⟩
def dkwJ13_wordIndex_0 : List UInt8 := [26, 16, 6, 122, 172]
abbrev dktJ13_wordIndex_0 : List UInt8 := dkwJ13_wordIndex_0 ++ []
theorem dksJ13_wordIndex_0 : cJ13_wordIndex.data.toList.drop 0 = dktJ13_wordIndex_0 := by decide +kernel
theorem dJ13_wordIndex_0 : decode cJ13_wordIndex 0 = .ok (.iload_n 0, 1) := dk_26 (dk_at dksJ13_wordIndex_0 0 rfl rfl)
theorem dJ13_wordIndex_1 : decode cJ13_wordIndex 1 = .ok (.bipush 6, 2) := dk_16 6 (dk_at dksJ13_wordIndex_0 1 rfl rfl)
theorem dJ13_wordIndex_3 : decode cJ13_wordIndex 3 = .ok (.ishr, 1) := dk_122 (dk_at dksJ13_wordIndex_0 3 rfl rfl)
theorem dJ13_wordIndex_4 : decode cJ13_wordIndex 4 = .ok (.ireturn, 1) := dk_172 (dk_at dksJ13_wordIndex_0 4 rfl rfl)
abbrev cJ13_clear : ByteArray := prog_51_method_25_code
def yJ13_clear : MethodName := ⟨RJ13, "clear", "()V"⟩
def dkwJ13_clear_1 : List UInt8 := [167, 255, 232, 177]
abbrev dktJ13_clear_1 : List UInt8 := dkwJ13_clear_1 ++ []
def dkwJ13_clear_0 : List UInt8 := [42, 180, 0, 7, 158, 0, 23, 42, 180, 0, 11, 42, 89, 180, 0, 7, 4, 100, 90, 181, 0, 7, 9, 80]
abbrev dktJ13_clear_0 : List UInt8 := dkwJ13_clear_0 ++ dktJ13_clear_1
theorem dksJ13_clear_0 : cJ13_clear.data.toList.drop 0 = dktJ13_clear_0 := by decide +kernel
theorem dksJ13_clear_1 : cJ13_clear.data.toList.drop 24 = dktJ13_clear_1 := dk_seg dksJ13_clear_0 24 rfl rfl
theorem dJ13_clear_0 : decode cJ13_clear 0 = .ok (.aload_n 0, 1) := dk_42 (dk_at dksJ13_clear_0 0 rfl rfl)
theorem dJ13_clear_1 : decode cJ13_clear 1 = .ok (.getfield 7, 3) := dk_180 0 7 (dk_at dksJ13_clear_0 1 rfl rfl)
theorem dJ13_clear_4 : decode cJ13_clear 4 = .ok (.ifCond .le 23, 3) := dk_158 0 23 (dk_at dksJ13_clear_0 4 rfl rfl)
theorem dJ13_clear_7 : decode cJ13_clear 7 = .ok (.aload_n 0, 1) := dk_42 (dk_at dksJ13_clear_0 7 rfl rfl)
theorem dJ13_clear_8 : decode cJ13_clear 8 = .ok (.getfield 11, 3) := dk_180 0 11 (dk_at dksJ13_clear_0 8 rfl rfl)
theorem dJ13_clear_11 : decode cJ13_clear 11 = .ok (.aload_n 0, 1) := dk_42 (dk_at dksJ13_clear_0 11 rfl rfl)
theorem dJ13_clear_12 : decode cJ13_clear 12 = .ok (.dup, 1) := dk_89 (dk_at dksJ13_clear_0 12 rfl rfl)
theorem dJ13_clear_13 : decode cJ13_clear 13 = .ok (.getfield 7, 3) := dk_180 0 7 (dk_at dksJ13_clear_0 13 rfl rfl)
theorem dJ13_clear_16 : decode cJ13_clear 16 = .ok (.iconst 1, 1) := dk_4 (dk_at dksJ13_clear_0 16 rfl rfl)
theorem dJ13_clear_17 : decode cJ13_clear 17 = .ok (.isub, 1) := dk_100 (dk_at dksJ13_clear_0 17 rfl rfl)
theorem dJ13_clear_18 : decode cJ13_clear 18 = .ok (.dup_x1, 1) := dk_90 (dk_at dksJ13_clear_0 18 rfl rfl)
theorem dJ13_clear_19 : decode cJ13_clear 19 = .ok (.putfield 7, 3) := dk_181 0 7 (dk_at dksJ13_clear_0 19 rfl rfl)
theorem dJ13_clear_22 : decode cJ13_clear 22 = .ok (.lconst 0, 1) := dk_9 (dk_at dksJ13_clear_0 22 rfl rfl)
theorem dJ13_clear_23 : decode cJ13_clear 23 = .ok (.lastore, 1) := dk_80 (dk_at dksJ13_clear_0 23 rfl rfl)
theorem dJ13_clear_24 : decode cJ13_clear 24 = .ok (.goto (-24), 3) := dk_167 255 232 (dk_at dksJ13_clear_1 0 rfl rfl)
theorem dJ13_clear_27 : decode cJ13_clear 27 = .ok (.return_, 1) := dk_177 (dk_at dksJ13_clear_1 3 rfl rfl)
abbrev cJ13_or : ByteArray := prog_51_method_37_code
def yJ13_or : MethodName := ⟨RJ13, "or", "(Ljava/util/BitSet;)V"⟩
def dkwJ13_or_4 : List UInt8 := [180, 0, 7, 28, 100, 184, 0, 199, 42, 182, 0, 56, 177]
abbrev dktJ13_or_4 : List UInt8 := dkwJ13_or_4 ++ []
def dkwJ13_or_3 : List UInt8 := [167, 255, 233, 28, 43, 180, 0, 7, 162, 0, 22, 43, 180, 0, 11, 28, 42, 180, 0, 11, 28, 42]
abbrev dktJ13_or_3 : List UInt8 := dkwJ13_or_3 ++ dktJ13_or_4
def dkwJ13_or_2 : List UInt8 := [29, 28, 162, 0, 24, 42, 180, 0, 11, 29, 92, 47, 43, 180, 0, 11, 29, 47, 129, 80, 132, 3, 1]
abbrev dktJ13_or_2 : List UInt8 := dkwJ13_or_2 ++ dktJ13_or_3
def dkwJ13_or_1 : List UInt8 := [180, 0, 7, 162, 0, 19, 42, 43, 180, 0, 7, 182, 0, 139, 42, 43, 180, 0, 7, 181, 0, 7, 3, 62]
abbrev dktJ13_or_1 : List UInt8 := dkwJ13_or_1 ++ dktJ13_or_2
def dkwJ13_or_0 : List UInt8 := [42, 43, 166, 0, 4, 177, 42, 180, 0, 7, 43, 180, 0, 7, 184, 0, 193, 61, 42, 180, 0, 7, 43]
abbrev dktJ13_or_0 : List UInt8 := dkwJ13_or_0 ++ dktJ13_or_1
theorem dksJ13_or_0 : cJ13_or.data.toList.drop 0 = dktJ13_or_0 := by decide +kernel
theorem dksJ13_or_1 : cJ13_or.data.toList.drop 23 = dktJ13_or_1 := dk_seg dksJ13_or_0 23 rfl rfl
theorem dksJ13_or_2 : cJ13_or.data.toList.drop 47 = dktJ13_or_2 := dk_seg dksJ13_or_1 24 rfl rfl
theorem dksJ13_or_3 : cJ13_or.data.toList.drop 70 = dktJ13_or_3 := dk_seg dksJ13_or_2 23 rfl rfl
theorem dksJ13_or_4 : cJ13_or.data.toList.drop 92 = dktJ13_or_4 := dk_seg dksJ13_or_3 22 rfl rfl
theorem dJ13_or_0 : decode cJ13_or 0 = .ok (.aload_n 0, 1) := dk_42 (dk_at dksJ13_or_0 0 rfl rfl)
theorem dJ13_or_1 : decode cJ13_or 1 = .ok (.aload_n 1, 1) := dk_43 (dk_at dksJ13_or_0 1 rfl rfl)
theorem dJ13_or_2 : decode cJ13_or 2 = .ok (.if_acmp .ne 4, 3) := dk_166 0 4 (dk_at dksJ13_or_0 2 rfl rfl)
theorem dJ13_or_5 : decode cJ13_or 5 = .ok (.return_, 1) := dk_177 (dk_at dksJ13_or_0 5 rfl rfl)
theorem dJ13_or_6 : decode cJ13_or 6 = .ok (.aload_n 0, 1) := dk_42 (dk_at dksJ13_or_0 6 rfl rfl)
theorem dJ13_or_7 : decode cJ13_or 7 = .ok (.getfield 7, 3) := dk_180 0 7 (dk_at dksJ13_or_0 7 rfl rfl)
theorem dJ13_or_10 : decode cJ13_or 10 = .ok (.aload_n 1, 1) := dk_43 (dk_at dksJ13_or_0 10 rfl rfl)
theorem dJ13_or_11 : decode cJ13_or 11 = .ok (.getfield 7, 3) := dk_180 0 7 (dk_at dksJ13_or_0 11 rfl rfl)
theorem dJ13_or_14 : decode cJ13_or 14 = .ok (.invokestatic 193, 3) := dk_184 0 193 (dk_at dksJ13_or_0 14 rfl rfl)
theorem dJ13_or_17 : decode cJ13_or 17 = .ok (.istore_n 2, 1) := dk_61 (dk_at dksJ13_or_0 17 rfl rfl)
theorem dJ13_or_18 : decode cJ13_or 18 = .ok (.aload_n 0, 1) := dk_42 (dk_at dksJ13_or_0 18 rfl rfl)
theorem dJ13_or_19 : decode cJ13_or 19 = .ok (.getfield 7, 3) := dk_180 0 7 (dk_at dksJ13_or_0 19 rfl rfl)
theorem dJ13_or_22 : decode cJ13_or 22 = .ok (.aload_n 1, 1) := dk_43 (dk_at dksJ13_or_0 22 rfl rfl)
theorem dJ13_or_23 : decode cJ13_or 23 = .ok (.getfield 7, 3) := dk_180 0 7 (dk_at dksJ13_or_1 0 rfl rfl)
theorem dJ13_or_26 : decode cJ13_or 26 = .ok (.if_icmp .ge 19, 3) := dk_162 0 19 (dk_at dksJ13_or_1 3 rfl rfl)
theorem dJ13_or_29 : decode cJ13_or 29 = .ok (.aload_n 0, 1) := dk_42 (dk_at dksJ13_or_1 6 rfl rfl)
theorem dJ13_or_30 : decode cJ13_or 30 = .ok (.aload_n 1, 1) := dk_43 (dk_at dksJ13_or_1 7 rfl rfl)
theorem dJ13_or_31 : decode cJ13_or 31 = .ok (.getfield 7, 3) := dk_180 0 7 (dk_at dksJ13_or_1 8 rfl rfl)
theorem dJ13_or_34 : decode cJ13_or 34 = .ok (.invokevirtual 139, 3) := dk_182 0 139 (dk_at dksJ13_or_1 11 rfl rfl)
theorem dJ13_or_37 : decode cJ13_or 37 = .ok (.aload_n 0, 1) := dk_42 (dk_at dksJ13_or_1 14 rfl rfl)
theorem dJ13_or_38 : decode cJ13_or 38 = .ok (.aload_n 1, 1) := dk_43 (dk_at dksJ13_or_1 15 rfl rfl)
theorem dJ13_or_39 : decode cJ13_or 39 = .ok (.getfield 7, 3) := dk_180 0 7 (dk_at dksJ13_or_1 16 rfl rfl)
theorem dJ13_or_42 : decode cJ13_or 42 = .ok (.putfield 7, 3) := dk_181 0 7 (dk_at dksJ13_or_1 19 rfl rfl)
theorem dJ13_or_45 : decode cJ13_or 45 = .ok (.iconst 0, 1) := dk_3 (dk_at dksJ13_or_1 22 rfl rfl)
theorem dJ13_or_46 : decode cJ13_or 46 = .ok (.istore_n 3, 1) := dk_62 (dk_at dksJ13_or_1 23 rfl rfl)
theorem dJ13_or_47 : decode cJ13_or 47 = .ok (.iload_n 3, 1) := dk_29 (dk_at dksJ13_or_2 0 rfl rfl)
theorem dJ13_or_48 : decode cJ13_or 48 = .ok (.iload_n 2, 1) := dk_28 (dk_at dksJ13_or_2 1 rfl rfl)
theorem dJ13_or_49 : decode cJ13_or 49 = .ok (.if_icmp .ge 24, 3) := dk_162 0 24 (dk_at dksJ13_or_2 2 rfl rfl)
theorem dJ13_or_52 : decode cJ13_or 52 = .ok (.aload_n 0, 1) := dk_42 (dk_at dksJ13_or_2 5 rfl rfl)
theorem dJ13_or_53 : decode cJ13_or 53 = .ok (.getfield 11, 3) := dk_180 0 11 (dk_at dksJ13_or_2 6 rfl rfl)
theorem dJ13_or_56 : decode cJ13_or 56 = .ok (.iload_n 3, 1) := dk_29 (dk_at dksJ13_or_2 9 rfl rfl)
theorem dJ13_or_57 : decode cJ13_or 57 = .ok (.dup2, 1) := dk_92 (dk_at dksJ13_or_2 10 rfl rfl)
theorem dJ13_or_58 : decode cJ13_or 58 = .ok (.laload, 1) := dk_47 (dk_at dksJ13_or_2 11 rfl rfl)
theorem dJ13_or_59 : decode cJ13_or 59 = .ok (.aload_n 1, 1) := dk_43 (dk_at dksJ13_or_2 12 rfl rfl)
theorem dJ13_or_60 : decode cJ13_or 60 = .ok (.getfield 11, 3) := dk_180 0 11 (dk_at dksJ13_or_2 13 rfl rfl)
theorem dJ13_or_63 : decode cJ13_or 63 = .ok (.iload_n 3, 1) := dk_29 (dk_at dksJ13_or_2 16 rfl rfl)
theorem dJ13_or_64 : decode cJ13_or 64 = .ok (.laload, 1) := dk_47 (dk_at dksJ13_or_2 17 rfl rfl)
theorem dJ13_or_65 : decode cJ13_or 65 = .ok (.lor, 1) := dk_129 (dk_at dksJ13_or_2 18 rfl rfl)
theorem dJ13_or_66 : decode cJ13_or 66 = .ok (.lastore, 1) := dk_80 (dk_at dksJ13_or_2 19 rfl rfl)
theorem dJ13_or_67 : decode cJ13_or 67 = .ok (.iinc 3 1, 3) := dk_132 3 1 (dk_at dksJ13_or_2 20 rfl rfl)
theorem dJ13_or_70 : decode cJ13_or 70 = .ok (.goto (-23), 3) := dk_167 255 233 (dk_at dksJ13_or_3 0 rfl rfl)
theorem dJ13_or_73 : decode cJ13_or 73 = .ok (.iload_n 2, 1) := dk_28 (dk_at dksJ13_or_3 3 rfl rfl)
theorem dJ13_or_74 : decode cJ13_or 74 = .ok (.aload_n 1, 1) := dk_43 (dk_at dksJ13_or_3 4 rfl rfl)
theorem dJ13_or_75 : decode cJ13_or 75 = .ok (.getfield 7, 3) := dk_180 0 7 (dk_at dksJ13_or_3 5 rfl rfl)
theorem dJ13_or_78 : decode cJ13_or 78 = .ok (.if_icmp .ge 22, 3) := dk_162 0 22 (dk_at dksJ13_or_3 8 rfl rfl)
theorem dJ13_or_81 : decode cJ13_or 81 = .ok (.aload_n 1, 1) := dk_43 (dk_at dksJ13_or_3 11 rfl rfl)
theorem dJ13_or_82 : decode cJ13_or 82 = .ok (.getfield 11, 3) := dk_180 0 11 (dk_at dksJ13_or_3 12 rfl rfl)
theorem dJ13_or_85 : decode cJ13_or 85 = .ok (.iload_n 2, 1) := dk_28 (dk_at dksJ13_or_3 15 rfl rfl)
theorem dJ13_or_86 : decode cJ13_or 86 = .ok (.aload_n 0, 1) := dk_42 (dk_at dksJ13_or_3 16 rfl rfl)
theorem dJ13_or_87 : decode cJ13_or 87 = .ok (.getfield 11, 3) := dk_180 0 11 (dk_at dksJ13_or_3 17 rfl rfl)
theorem dJ13_or_90 : decode cJ13_or 90 = .ok (.iload_n 2, 1) := dk_28 (dk_at dksJ13_or_3 20 rfl rfl)
theorem dJ13_or_91 : decode cJ13_or 91 = .ok (.aload_n 0, 1) := dk_42 (dk_at dksJ13_or_3 21 rfl rfl)
theorem dJ13_or_92 : decode cJ13_or 92 = .ok (.getfield 7, 3) := dk_180 0 7 (dk_at dksJ13_or_4 0 rfl rfl)
theorem dJ13_or_95 : decode cJ13_or 95 = .ok (.iload_n 2, 1) := dk_28 (dk_at dksJ13_or_4 3 rfl rfl)
theorem dJ13_or_96 : decode cJ13_or 96 = .ok (.isub, 1) := dk_100 (dk_at dksJ13_or_4 4 rfl rfl)
theorem dJ13_or_97 : decode cJ13_or 97 = .ok (.invokestatic 199, 3) := dk_184 0 199 (dk_at dksJ13_or_4 5 rfl rfl)
theorem dJ13_or_100 : decode cJ13_or 100 = .ok (.aload_n 0, 1) := dk_42 (dk_at dksJ13_or_4 8 rfl rfl)
theorem dJ13_or_101 : decode cJ13_or 101 = .ok (.invokevirtual 56, 3) := dk_182 0 56 (dk_at dksJ13_or_4 9 rfl rfl)
theorem dJ13_or_104 : decode cJ13_or 104 = .ok (.return_, 1) := dk_177 (dk_at dksJ13_or_4 12 rfl rfl)
abbrev cJ13_ensureCapacity : ByteArray := prog_51_method_14_code
def yJ13_ensureCapacity : MethodName := ⟨RJ13, "ensureCapacity", "(I)V"⟩
def dkwJ13_ensureCapacity_1 : List UInt8 := [180, 0, 11, 28, 184, 0, 59, 181, 0, 11, 42, 3, 181, 0, 24, 177]
abbrev dktJ13_ensureCapacity_1 : List UInt8 := dkwJ13_ensureCapacity_1 ++ []
def dkwJ13_ensureCapacity_0 : List UInt8 := [42, 180, 0, 11, 190, 27, 162, 0, 32, 5, 42, 180, 0, 11, 190, 104, 27, 184, 0, 133, 61, 42, 42]
abbrev dktJ13_ensureCapacity_0 : List UInt8 := dkwJ13_ensureCapacity_0 ++ dktJ13_ensureCapacity_1
theorem dksJ13_ensureCapacity_0 : cJ13_ensureCapacity.data.toList.drop 0 = dktJ13_ensureCapacity_0 := by decide +kernel
theorem dksJ13_ensureCapacity_1 : cJ13_ensureCapacity.data.toList.drop 23 = dktJ13_ensureCapacity_1 := dk_seg dksJ13_ensureCapacity_0 23 rfl rfl
theorem dJ13_ensureCapacity_0 : decode cJ13_ensureCapacity 0 = .ok (.aload_n 0, 1) := dk_42 (dk_at dksJ13_ensureCapacity_0 0 rfl rfl)
theorem dJ13_ensureCapacity_1 : decode cJ13_ensureCapacity 1 = .ok (.getfield 11, 3) := dk_180 0 11 (dk_at dksJ13_ensureCapacity_0 1 rfl rfl)
theorem dJ13_ensureCapacity_4 : decode cJ13_ensureCapacity 4 = .ok (.arraylength, 1) := dk_190 (dk_at dksJ13_ensureCapacity_0 4 rfl rfl)
theorem dJ13_ensureCapacity_5 : decode cJ13_ensureCapacity 5 = .ok (.iload_n 1, 1) := dk_27 (dk_at dksJ13_ensureCapacity_0 5 rfl rfl)
theorem dJ13_ensureCapacity_6 : decode cJ13_ensureCapacity 6 = .ok (.if_icmp .ge 32, 3) := dk_162 0 32 (dk_at dksJ13_ensureCapacity_0 6 rfl rfl)
theorem dJ13_ensureCapacity_9 : decode cJ13_ensureCapacity 9 = .ok (.iconst 2, 1) := dk_5 (dk_at dksJ13_ensureCapacity_0 9 rfl rfl)
theorem dJ13_ensureCapacity_10 : decode cJ13_ensureCapacity 10 = .ok (.aload_n 0, 1) := dk_42 (dk_at dksJ13_ensureCapacity_0 10 rfl rfl)
theorem dJ13_ensureCapacity_11 : decode cJ13_ensureCapacity 11 = .ok (.getfield 11, 3) := dk_180 0 11 (dk_at dksJ13_ensureCapacity_0 11 rfl rfl)
theorem dJ13_ensureCapacity_14 : decode cJ13_ensureCapacity 14 = .ok (.arraylength, 1) := dk_190 (dk_at dksJ13_ensureCapacity_0 14 rfl rfl)
theorem dJ13_ensureCapacity_15 : decode cJ13_ensureCapacity 15 = .ok (.imul, 1) := dk_104 (dk_at dksJ13_ensureCapacity_0 15 rfl rfl)
theorem dJ13_ensureCapacity_16 : decode cJ13_ensureCapacity 16 = .ok (.iload_n 1, 1) := dk_27 (dk_at dksJ13_ensureCapacity_0 16 rfl rfl)
theorem dJ13_ensureCapacity_17 : decode cJ13_ensureCapacity 17 = .ok (.invokestatic 133, 3) := dk_184 0 133 (dk_at dksJ13_ensureCapacity_0 17 rfl rfl)
theorem dJ13_ensureCapacity_20 : decode cJ13_ensureCapacity 20 = .ok (.istore_n 2, 1) := dk_61 (dk_at dksJ13_ensureCapacity_0 20 rfl rfl)
theorem dJ13_ensureCapacity_21 : decode cJ13_ensureCapacity 21 = .ok (.aload_n 0, 1) := dk_42 (dk_at dksJ13_ensureCapacity_0 21 rfl rfl)
theorem dJ13_ensureCapacity_22 : decode cJ13_ensureCapacity 22 = .ok (.aload_n 0, 1) := dk_42 (dk_at dksJ13_ensureCapacity_0 22 rfl rfl)
theorem dJ13_ensureCapacity_23 : decode cJ13_ensureCapacity 23 = .ok (.getfield 11, 3) := dk_180 0 11 (dk_at dksJ13_ensureCapacity_1 0 rfl rfl)
theorem dJ13_ensureCapacity_26 : decode cJ13_ensureCapacity 26 = .ok (.iload_n 2, 1) := dk_28 (dk_at dksJ13_ensureCapacity_1 3 rfl rfl)
theorem dJ13_ensureCapacity_27 : decode cJ13_ensureCapacity 27 = .ok (.invokestatic 59, 3) := dk_184 0 59 (dk_at dksJ13_ensureCapacity_1 4 rfl rfl)
theorem dJ13_ensureCapacity_30 : decode cJ13_ensureCapacity 30 = .ok (.putfield 11, 3) := dk_181 0 11 (dk_at dksJ13_ensureCapacity_1 7 rfl rfl)
theorem dJ13_ensureCapacity_33 : decode cJ13_ensureCapacity 33 = .ok (.aload_n 0, 1) := dk_42 (dk_at dksJ13_ensureCapacity_1 10 rfl rfl)
theorem dJ13_ensureCapacity_34 : decode cJ13_ensureCapacity 34 = .ok (.iconst 0, 1) := dk_3 (dk_at dksJ13_ensureCapacity_1 11 rfl rfl)
theorem dJ13_ensureCapacity_35 : decode cJ13_ensureCapacity 35 = .ok (.putfield 24, 3) := dk_181 0 24 (dk_at dksJ13_ensureCapacity_1 12 rfl rfl)
theorem dJ13_ensureCapacity_38 : decode cJ13_ensureCapacity 38 = .ok (.return_, 1) := dk_177 (dk_at dksJ13_ensureCapacity_1 15 rfl rfl)
abbrev cJ13_checkInvariants : ByteArray := prog_51_method_2_code
def yJ13_checkInvariants : MethodName := ⟨RJ13, "checkInvariants", "()V"⟩
def dkwJ13_checkInvariants_4 : List UInt8 := [180, 0, 7, 47, 9, 148, 153, 0, 11, 187, 0, 15, 89, 183, 0, 17, 191, 177]
abbrev dktJ13_checkInvariants_4 : List UInt8 := dkwJ13_checkInvariants_4 ++ []
def dkwJ13_checkInvariants_3 : List UInt8 := [178, 0, 3, 154, 0, 37, 42, 180, 0, 7, 42, 180, 0, 11, 190, 159, 0, 25, 42, 180, 0, 11, 42]
abbrev dktJ13_checkInvariants_3 : List UInt8 := dkwJ13_checkInvariants_3 ++ dktJ13_checkInvariants_4
def dkwJ13_checkInvariants_2 : List UInt8 := [155, 0, 15, 42, 180, 0, 7, 42, 180, 0, 11, 190, 164, 0, 11, 187, 0, 15, 89, 183, 0, 17, 191]
abbrev dktJ13_checkInvariants_2 : List UInt8 := dkwJ13_checkInvariants_2 ++ dktJ13_checkInvariants_3
def dkwJ13_checkInvariants_1 : List UInt8 := [9, 148, 154, 0, 11, 187, 0, 15, 89, 183, 0, 17, 191, 178, 0, 3, 154, 0, 30, 42, 180, 0, 7]
abbrev dktJ13_checkInvariants_1 : List UInt8 := dkwJ13_checkInvariants_1 ++ dktJ13_checkInvariants_2
def dkwJ13_checkInvariants_0 : List UInt8 := [178, 0, 3, 154, 0, 34, 42, 180, 0, 7, 153, 0, 27, 42, 180, 0, 11, 42, 180, 0, 7, 4, 100, 47]
abbrev dktJ13_checkInvariants_0 : List UInt8 := dkwJ13_checkInvariants_0 ++ dktJ13_checkInvariants_1
theorem dksJ13_checkInvariants_0 : cJ13_checkInvariants.data.toList.drop 0 = dktJ13_checkInvariants_0 := by decide +kernel
theorem dksJ13_checkInvariants_1 : cJ13_checkInvariants.data.toList.drop 24 = dktJ13_checkInvariants_1 := dk_seg dksJ13_checkInvariants_0 24 rfl rfl
theorem dksJ13_checkInvariants_2 : cJ13_checkInvariants.data.toList.drop 47 = dktJ13_checkInvariants_2 := dk_seg dksJ13_checkInvariants_1 23 rfl rfl
theorem dksJ13_checkInvariants_3 : cJ13_checkInvariants.data.toList.drop 70 = dktJ13_checkInvariants_3 := dk_seg dksJ13_checkInvariants_2 23 rfl rfl
theorem dksJ13_checkInvariants_4 : cJ13_checkInvariants.data.toList.drop 93 = dktJ13_checkInvariants_4 := dk_seg dksJ13_checkInvariants_3 23 rfl rfl
theorem dJ13_checkInvariants_0 : decode cJ13_checkInvariants 0 = .ok (.getstatic 3, 3) := dk_178 0 3 (dk_at dksJ13_checkInvariants_0 0 rfl rfl)
theorem dJ13_checkInvariants_3 : decode cJ13_checkInvariants 3 = .ok (.ifCond .ne 34, 3) := dk_154 0 34 (dk_at dksJ13_checkInvariants_0 3 rfl rfl)
theorem dJ13_checkInvariants_6 : decode cJ13_checkInvariants 6 = .ok (.aload_n 0, 1) := dk_42 (dk_at dksJ13_checkInvariants_0 6 rfl rfl)
theorem dJ13_checkInvariants_7 : decode cJ13_checkInvariants 7 = .ok (.getfield 7, 3) := dk_180 0 7 (dk_at dksJ13_checkInvariants_0 7 rfl rfl)
theorem dJ13_checkInvariants_10 : decode cJ13_checkInvariants 10 = .ok (.ifCond .eq 27, 3) := dk_153 0 27 (dk_at dksJ13_checkInvariants_0 10 rfl rfl)
theorem dJ13_checkInvariants_13 : decode cJ13_checkInvariants 13 = .ok (.aload_n 0, 1) := dk_42 (dk_at dksJ13_checkInvariants_0 13 rfl rfl)
theorem dJ13_checkInvariants_14 : decode cJ13_checkInvariants 14 = .ok (.getfield 11, 3) := dk_180 0 11 (dk_at dksJ13_checkInvariants_0 14 rfl rfl)
theorem dJ13_checkInvariants_17 : decode cJ13_checkInvariants 17 = .ok (.aload_n 0, 1) := dk_42 (dk_at dksJ13_checkInvariants_0 17 rfl rfl)
theorem dJ13_checkInvariants_18 : decode cJ13_checkInvariants 18 = .ok (.getfield 7, 3) := dk_180 0 7 (dk_at dksJ13_checkInvariants_0 18 rfl rfl)
theorem dJ13_checkInvariants_21 : decode cJ13_checkInvariants 21 = .ok (.iconst 1, 1) := dk_4 (dk_at dksJ13_checkInvariants_0 21 rfl rfl)
theorem dJ13_checkInvariants_22 : decode cJ13_checkInvariants 22 = .ok (.isub, 1) := dk_100 (dk_at dksJ13_checkInvariants_0 22 rfl rfl)
theorem dJ13_checkInvariants_23 : decode cJ13_checkInvariants 23 = .ok (.laload, 1) := dk_47 (dk_at dksJ13_checkInvariants_0 23 rfl rfl)
theorem dJ13_checkInvariants_24 : decode cJ13_checkInvariants 24 = .ok (.lconst 0, 1) := dk_9 (dk_at dksJ13_checkInvariants_1 0 rfl rfl)
theorem dJ13_checkInvariants_25 : decode cJ13_checkInvariants 25 = .ok (.lcmp, 1) := dk_148 (dk_at dksJ13_checkInvariants_1 1 rfl rfl)
theorem dJ13_checkInvariants_26 : decode cJ13_checkInvariants 26 = .ok (.ifCond .ne 11, 3) := dk_154 0 11 (dk_at dksJ13_checkInvariants_1 2 rfl rfl)
theorem dJ13_checkInvariants_29 : decode cJ13_checkInvariants 29 = .ok (.new 15, 3) := dk_187 0 15 (dk_at dksJ13_checkInvariants_1 5 rfl rfl)
theorem dJ13_checkInvariants_32 : decode cJ13_checkInvariants 32 = .ok (.dup, 1) := dk_89 (dk_at dksJ13_checkInvariants_1 8 rfl rfl)
theorem dJ13_checkInvariants_33 : decode cJ13_checkInvariants 33 = .ok (.invokespecial 17, 3) := dk_183 0 17 (dk_at dksJ13_checkInvariants_1 9 rfl rfl)
theorem dJ13_checkInvariants_36 : decode cJ13_checkInvariants 36 = .ok (.athrow, 1) := dk_191 (dk_at dksJ13_checkInvariants_1 12 rfl rfl)
theorem dJ13_checkInvariants_37 : decode cJ13_checkInvariants 37 = .ok (.getstatic 3, 3) := dk_178 0 3 (dk_at dksJ13_checkInvariants_1 13 rfl rfl)
theorem dJ13_checkInvariants_40 : decode cJ13_checkInvariants 40 = .ok (.ifCond .ne 30, 3) := dk_154 0 30 (dk_at dksJ13_checkInvariants_1 16 rfl rfl)
theorem dJ13_checkInvariants_43 : decode cJ13_checkInvariants 43 = .ok (.aload_n 0, 1) := dk_42 (dk_at dksJ13_checkInvariants_1 19 rfl rfl)
theorem dJ13_checkInvariants_44 : decode cJ13_checkInvariants 44 = .ok (.getfield 7, 3) := dk_180 0 7 (dk_at dksJ13_checkInvariants_1 20 rfl rfl)
theorem dJ13_checkInvariants_47 : decode cJ13_checkInvariants 47 = .ok (.ifCond .lt 15, 3) := dk_155 0 15 (dk_at dksJ13_checkInvariants_2 0 rfl rfl)
theorem dJ13_checkInvariants_50 : decode cJ13_checkInvariants 50 = .ok (.aload_n 0, 1) := dk_42 (dk_at dksJ13_checkInvariants_2 3 rfl rfl)
theorem dJ13_checkInvariants_51 : decode cJ13_checkInvariants 51 = .ok (.getfield 7, 3) := dk_180 0 7 (dk_at dksJ13_checkInvariants_2 4 rfl rfl)
theorem dJ13_checkInvariants_54 : decode cJ13_checkInvariants 54 = .ok (.aload_n 0, 1) := dk_42 (dk_at dksJ13_checkInvariants_2 7 rfl rfl)
theorem dJ13_checkInvariants_55 : decode cJ13_checkInvariants 55 = .ok (.getfield 11, 3) := dk_180 0 11 (dk_at dksJ13_checkInvariants_2 8 rfl rfl)
theorem dJ13_checkInvariants_58 : decode cJ13_checkInvariants 58 = .ok (.arraylength, 1) := dk_190 (dk_at dksJ13_checkInvariants_2 11 rfl rfl)
theorem dJ13_checkInvariants_59 : decode cJ13_checkInvariants 59 = .ok (.if_icmp .le 11, 3) := dk_164 0 11 (dk_at dksJ13_checkInvariants_2 12 rfl rfl)
theorem dJ13_checkInvariants_62 : decode cJ13_checkInvariants 62 = .ok (.new 15, 3) := dk_187 0 15 (dk_at dksJ13_checkInvariants_2 15 rfl rfl)
theorem dJ13_checkInvariants_65 : decode cJ13_checkInvariants 65 = .ok (.dup, 1) := dk_89 (dk_at dksJ13_checkInvariants_2 18 rfl rfl)
theorem dJ13_checkInvariants_66 : decode cJ13_checkInvariants 66 = .ok (.invokespecial 17, 3) := dk_183 0 17 (dk_at dksJ13_checkInvariants_2 19 rfl rfl)
theorem dJ13_checkInvariants_69 : decode cJ13_checkInvariants 69 = .ok (.athrow, 1) := dk_191 (dk_at dksJ13_checkInvariants_2 22 rfl rfl)
theorem dJ13_checkInvariants_70 : decode cJ13_checkInvariants 70 = .ok (.getstatic 3, 3) := dk_178 0 3 (dk_at dksJ13_checkInvariants_3 0 rfl rfl)
theorem dJ13_checkInvariants_73 : decode cJ13_checkInvariants 73 = .ok (.ifCond .ne 37, 3) := dk_154 0 37 (dk_at dksJ13_checkInvariants_3 3 rfl rfl)
theorem dJ13_checkInvariants_76 : decode cJ13_checkInvariants 76 = .ok (.aload_n 0, 1) := dk_42 (dk_at dksJ13_checkInvariants_3 6 rfl rfl)
theorem dJ13_checkInvariants_77 : decode cJ13_checkInvariants 77 = .ok (.getfield 7, 3) := dk_180 0 7 (dk_at dksJ13_checkInvariants_3 7 rfl rfl)
theorem dJ13_checkInvariants_80 : decode cJ13_checkInvariants 80 = .ok (.aload_n 0, 1) := dk_42 (dk_at dksJ13_checkInvariants_3 10 rfl rfl)
theorem dJ13_checkInvariants_81 : decode cJ13_checkInvariants 81 = .ok (.getfield 11, 3) := dk_180 0 11 (dk_at dksJ13_checkInvariants_3 11 rfl rfl)
theorem dJ13_checkInvariants_84 : decode cJ13_checkInvariants 84 = .ok (.arraylength, 1) := dk_190 (dk_at dksJ13_checkInvariants_3 14 rfl rfl)
theorem dJ13_checkInvariants_85 : decode cJ13_checkInvariants 85 = .ok (.if_icmp .eq 25, 3) := dk_159 0 25 (dk_at dksJ13_checkInvariants_3 15 rfl rfl)
theorem dJ13_checkInvariants_88 : decode cJ13_checkInvariants 88 = .ok (.aload_n 0, 1) := dk_42 (dk_at dksJ13_checkInvariants_3 18 rfl rfl)
theorem dJ13_checkInvariants_89 : decode cJ13_checkInvariants 89 = .ok (.getfield 11, 3) := dk_180 0 11 (dk_at dksJ13_checkInvariants_3 19 rfl rfl)
theorem dJ13_checkInvariants_92 : decode cJ13_checkInvariants 92 = .ok (.aload_n 0, 1) := dk_42 (dk_at dksJ13_checkInvariants_3 22 rfl rfl)
theorem dJ13_checkInvariants_93 : decode cJ13_checkInvariants 93 = .ok (.getfield 7, 3) := dk_180 0 7 (dk_at dksJ13_checkInvariants_4 0 rfl rfl)
theorem dJ13_checkInvariants_96 : decode cJ13_checkInvariants 96 = .ok (.laload, 1) := dk_47 (dk_at dksJ13_checkInvariants_4 3 rfl rfl)
theorem dJ13_checkInvariants_97 : decode cJ13_checkInvariants 97 = .ok (.lconst 0, 1) := dk_9 (dk_at dksJ13_checkInvariants_4 4 rfl rfl)
theorem dJ13_checkInvariants_98 : decode cJ13_checkInvariants 98 = .ok (.lcmp, 1) := dk_148 (dk_at dksJ13_checkInvariants_4 5 rfl rfl)
theorem dJ13_checkInvariants_99 : decode cJ13_checkInvariants 99 = .ok (.ifCond .eq 11, 3) := dk_153 0 11 (dk_at dksJ13_checkInvariants_4 6 rfl rfl)
theorem dJ13_checkInvariants_102 : decode cJ13_checkInvariants 102 = .ok (.new 15, 3) := dk_187 0 15 (dk_at dksJ13_checkInvariants_4 9 rfl rfl)
theorem dJ13_checkInvariants_105 : decode cJ13_checkInvariants 105 = .ok (.dup, 1) := dk_89 (dk_at dksJ13_checkInvariants_4 12 rfl rfl)
theorem dJ13_checkInvariants_106 : decode cJ13_checkInvariants 106 = .ok (.invokespecial 17, 3) := dk_183 0 17 (dk_at dksJ13_checkInvariants_4 13 rfl rfl)
theorem dJ13_checkInvariants_109 : decode cJ13_checkInvariants 109 = .ok (.athrow, 1) := dk_191 (dk_at dksJ13_checkInvariants_4 16 rfl rfl)
theorem dJ13_checkInvariants_110 : decode cJ13_checkInvariants 110 = .ok (.return_, 1) := dk_177 (dk_at dksJ13_checkInvariants_4 17 rfl rfl)
abbrev cJ13_set : ByteArray := prog_51_method_19_code
def yJ13_set : MethodName := ⟨RJ13, "set", "(I)V"⟩
def dkwJ13_set_2 : List UInt8 := [10, 27, 121, 129, 80, 42, 182, 0, 56, 177]
abbrev dktJ13_set_2 : List UInt8 := dkwJ13_set_2 ++ []
def dkwJ13_set_1 : List UInt8 := [182, 0, 45, 183, 0, 146, 191, 27, 184, 0, 52, 61, 42, 28, 182, 0, 155, 42, 180, 0, 11, 28, 92, 47]
abbrev dktJ13_set_1 : List UInt8 := dkwJ13_set_1 ++ dktJ13_set_2
def dkwJ13_set_0 : List UInt8 := [27, 156, 0, 30, 187, 0, 142, 89, 187, 0, 33, 89, 183, 0, 35, 18, 153, 182, 0, 38, 27, 182, 0, 42]
abbrev dktJ13_set_0 : List UInt8 := dkwJ13_set_0 ++ dktJ13_set_1
theorem dksJ13_set_0 : cJ13_set.data.toList.drop 0 = dktJ13_set_0 := by decide +kernel
theorem dksJ13_set_1 : cJ13_set.data.toList.drop 24 = dktJ13_set_1 := dk_seg dksJ13_set_0 24 rfl rfl
theorem dksJ13_set_2 : cJ13_set.data.toList.drop 48 = dktJ13_set_2 := dk_seg dksJ13_set_1 24 rfl rfl
theorem dJ13_set_0 : decode cJ13_set 0 = .ok (.iload_n 1, 1) := dk_27 (dk_at dksJ13_set_0 0 rfl rfl)
theorem dJ13_set_1 : decode cJ13_set 1 = .ok (.ifCond .ge 30, 3) := dk_156 0 30 (dk_at dksJ13_set_0 1 rfl rfl)
theorem dJ13_set_4 : decode cJ13_set 4 = .ok (.new 142, 3) := dk_187 0 142 (dk_at dksJ13_set_0 4 rfl rfl)
theorem dJ13_set_7 : decode cJ13_set 7 = .ok (.dup, 1) := dk_89 (dk_at dksJ13_set_0 7 rfl rfl)
theorem dJ13_set_8 : decode cJ13_set 8 = .ok (.new 33, 3) := dk_187 0 33 (dk_at dksJ13_set_0 8 rfl rfl)
theorem dJ13_set_11 : decode cJ13_set 11 = .ok (.dup, 1) := dk_89 (dk_at dksJ13_set_0 11 rfl rfl)
theorem dJ13_set_12 : decode cJ13_set 12 = .ok (.invokespecial 35, 3) := dk_183 0 35 (dk_at dksJ13_set_0 12 rfl rfl)
theorem dJ13_set_15 : decode cJ13_set 15 = .ok (.ldc 153, 2) := dk_18 153 (dk_at dksJ13_set_0 15 rfl rfl)
theorem dJ13_set_17 : decode cJ13_set 17 = .ok (.invokevirtual 38, 3) := dk_182 0 38 (dk_at dksJ13_set_0 17 rfl rfl)
theorem dJ13_set_20 : decode cJ13_set 20 = .ok (.iload_n 1, 1) := dk_27 (dk_at dksJ13_set_0 20 rfl rfl)
theorem dJ13_set_21 : decode cJ13_set 21 = .ok (.invokevirtual 42, 3) := dk_182 0 42 (dk_at dksJ13_set_0 21 rfl rfl)
theorem dJ13_set_24 : decode cJ13_set 24 = .ok (.invokevirtual 45, 3) := dk_182 0 45 (dk_at dksJ13_set_1 0 rfl rfl)
theorem dJ13_set_27 : decode cJ13_set 27 = .ok (.invokespecial 146, 3) := dk_183 0 146 (dk_at dksJ13_set_1 3 rfl rfl)
theorem dJ13_set_30 : decode cJ13_set 30 = .ok (.athrow, 1) := dk_191 (dk_at dksJ13_set_1 6 rfl rfl)
theorem dJ13_set_31 : decode cJ13_set 31 = .ok (.iload_n 1, 1) := dk_27 (dk_at dksJ13_set_1 7 rfl rfl)
theorem dJ13_set_32 : decode cJ13_set 32 = .ok (.invokestatic 52, 3) := dk_184 0 52 (dk_at dksJ13_set_1 8 rfl rfl)
theorem dJ13_set_35 : decode cJ13_set 35 = .ok (.istore_n 2, 1) := dk_61 (dk_at dksJ13_set_1 11 rfl rfl)
theorem dJ13_set_36 : decode cJ13_set 36 = .ok (.aload_n 0, 1) := dk_42 (dk_at dksJ13_set_1 12 rfl rfl)
theorem dJ13_set_37 : decode cJ13_set 37 = .ok (.iload_n 2, 1) := dk_28 (dk_at dksJ13_set_1 13 rfl rfl)
theorem dJ13_set_38 : decode cJ13_set 38 = .ok (.invokevirtual 155, 3) := dk_182 0 155 (dk_at dksJ13_set_1 14 rfl rfl)
theorem dJ13_set_41 : decode cJ13_set 41 = .ok (.aload_n 0, 1) := dk_42 (dk_at dksJ13_set_1 17 rfl rfl)
theorem dJ13_set_42 : decode cJ13_set 42 = .ok (.getfield 11, 3) := dk_180 0 11 (dk_at dksJ13_set_1 18 rfl rfl)
theorem dJ13_set_45 : decode cJ13_set 45 = .ok (.iload_n 2, 1) := dk_28 (dk_at dksJ13_set_1 21 rfl rfl)
theorem dJ13_set_46 : decode cJ13_set 46 = .ok (.dup2, 1) := dk_92 (dk_at dksJ13_set_1 22 rfl rfl)
theorem dJ13_set_47 : decode cJ13_set 47 = .ok (.laload, 1) := dk_47 (dk_at dksJ13_set_1 23 rfl rfl)
theorem dJ13_set_48 : decode cJ13_set 48 = .ok (.lconst 1, 1) := dk_10 (dk_at dksJ13_set_2 0 rfl rfl)
theorem dJ13_set_49 : decode cJ13_set 49 = .ok (.iload_n 1, 1) := dk_27 (dk_at dksJ13_set_2 1 rfl rfl)
theorem dJ13_set_50 : decode cJ13_set 50 = .ok (.lshl, 1) := dk_121 (dk_at dksJ13_set_2 2 rfl rfl)
theorem dJ13_set_51 : decode cJ13_set 51 = .ok (.lor, 1) := dk_129 (dk_at dksJ13_set_2 3 rfl rfl)
theorem dJ13_set_52 : decode cJ13_set 52 = .ok (.lastore, 1) := dk_80 (dk_at dksJ13_set_2 4 rfl rfl)
theorem dJ13_set_53 : decode cJ13_set 53 = .ok (.aload_n 0, 1) := dk_42 (dk_at dksJ13_set_2 5 rfl rfl)
theorem dJ13_set_54 : decode cJ13_set 54 = .ok (.invokevirtual 56, 3) := dk_182 0 56 (dk_at dksJ13_set_2 6 rfl rfl)
theorem dJ13_set_57 : decode cJ13_set 57 = .ok (.return_, 1) := dk_177 (dk_at dksJ13_set_2 9 rfl rfl)
abbrev cJ13_expandTo : ByteArray := prog_51_method_15_code
def yJ13_expandTo : MethodName := ⟨RJ13, "expandTo", "(I)V"⟩
def dkwJ13_expandTo_0 : List UInt8 := [27, 4, 96, 61, 42, 180, 0, 7, 28, 162, 0, 13, 42, 28, 182, 0, 139, 42, 28, 181, 0, 7, 177]
abbrev dktJ13_expandTo_0 : List UInt8 := dkwJ13_expandTo_0 ++ []
theorem dksJ13_expandTo_0 : cJ13_expandTo.data.toList.drop 0 = dktJ13_expandTo_0 := by decide +kernel
theorem dJ13_expandTo_0 : decode cJ13_expandTo 0 = .ok (.iload_n 1, 1) := dk_27 (dk_at dksJ13_expandTo_0 0 rfl rfl)
theorem dJ13_expandTo_1 : decode cJ13_expandTo 1 = .ok (.iconst 1, 1) := dk_4 (dk_at dksJ13_expandTo_0 1 rfl rfl)
theorem dJ13_expandTo_2 : decode cJ13_expandTo 2 = .ok (.iadd, 1) := dk_96 (dk_at dksJ13_expandTo_0 2 rfl rfl)
theorem dJ13_expandTo_3 : decode cJ13_expandTo 3 = .ok (.istore_n 2, 1) := dk_61 (dk_at dksJ13_expandTo_0 3 rfl rfl)
theorem dJ13_expandTo_4 : decode cJ13_expandTo 4 = .ok (.aload_n 0, 1) := dk_42 (dk_at dksJ13_expandTo_0 4 rfl rfl)
theorem dJ13_expandTo_5 : decode cJ13_expandTo 5 = .ok (.getfield 7, 3) := dk_180 0 7 (dk_at dksJ13_expandTo_0 5 rfl rfl)
theorem dJ13_expandTo_8 : decode cJ13_expandTo 8 = .ok (.iload_n 2, 1) := dk_28 (dk_at dksJ13_expandTo_0 8 rfl rfl)
theorem dJ13_expandTo_9 : decode cJ13_expandTo 9 = .ok (.if_icmp .ge 13, 3) := dk_162 0 13 (dk_at dksJ13_expandTo_0 9 rfl rfl)
theorem dJ13_expandTo_12 : decode cJ13_expandTo 12 = .ok (.aload_n 0, 1) := dk_42 (dk_at dksJ13_expandTo_0 12 rfl rfl)
theorem dJ13_expandTo_13 : decode cJ13_expandTo 13 = .ok (.iload_n 2, 1) := dk_28 (dk_at dksJ13_expandTo_0 13 rfl rfl)
theorem dJ13_expandTo_14 : decode cJ13_expandTo 14 = .ok (.invokevirtual 139, 3) := dk_182 0 139 (dk_at dksJ13_expandTo_0 14 rfl rfl)
theorem dJ13_expandTo_17 : decode cJ13_expandTo 17 = .ok (.aload_n 0, 1) := dk_42 (dk_at dksJ13_expandTo_0 17 rfl rfl)
theorem dJ13_expandTo_18 : decode cJ13_expandTo 18 = .ok (.iload_n 2, 1) := dk_28 (dk_at dksJ13_expandTo_0 18 rfl rfl)
theorem dJ13_expandTo_19 : decode cJ13_expandTo 19 = .ok (.putfield 7, 3) := dk_181 0 7 (dk_at dksJ13_expandTo_0 19 rfl rfl)
theorem dJ13_expandTo_22 : decode cJ13_expandTo 22 = .ok (.return_, 1) := dk_177 (dk_at dksJ13_expandTo_0 22 rfl rfl)
abbrev cJ13_cardinality : ByteArray := prog_51_method_35_code
def yJ13_cardinality : MethodName := ⟨RJ13, "cardinality", "()I"⟩
def dkwJ13_cardinality_1 : List UInt8 := [132, 2, 1, 167, 255, 233, 27, 172]
abbrev dktJ13_cardinality_1 : List UInt8 := dkwJ13_cardinality_1 ++ []
def dkwJ13_cardinality_0 : List UInt8 := [3, 60, 3, 61, 28, 42, 180, 0, 7, 162, 0, 21, 27, 42, 180, 0, 11, 28, 47, 184, 0, 196, 96, 60]
abbrev dktJ13_cardinality_0 : List UInt8 := dkwJ13_cardinality_0 ++ dktJ13_cardinality_1
theorem dksJ13_cardinality_0 : cJ13_cardinality.data.toList.drop 0 = dktJ13_cardinality_0 := by decide +kernel
theorem dksJ13_cardinality_1 : cJ13_cardinality.data.toList.drop 24 = dktJ13_cardinality_1 := dk_seg dksJ13_cardinality_0 24 rfl rfl
theorem dJ13_cardinality_0 : decode cJ13_cardinality 0 = .ok (.iconst 0, 1) := dk_3 (dk_at dksJ13_cardinality_0 0 rfl rfl)
theorem dJ13_cardinality_1 : decode cJ13_cardinality 1 = .ok (.istore_n 1, 1) := dk_60 (dk_at dksJ13_cardinality_0 1 rfl rfl)
theorem dJ13_cardinality_2 : decode cJ13_cardinality 2 = .ok (.iconst 0, 1) := dk_3 (dk_at dksJ13_cardinality_0 2 rfl rfl)
theorem dJ13_cardinality_3 : decode cJ13_cardinality 3 = .ok (.istore_n 2, 1) := dk_61 (dk_at dksJ13_cardinality_0 3 rfl rfl)
theorem dJ13_cardinality_4 : decode cJ13_cardinality 4 = .ok (.iload_n 2, 1) := dk_28 (dk_at dksJ13_cardinality_0 4 rfl rfl)
theorem dJ13_cardinality_5 : decode cJ13_cardinality 5 = .ok (.aload_n 0, 1) := dk_42 (dk_at dksJ13_cardinality_0 5 rfl rfl)
theorem dJ13_cardinality_6 : decode cJ13_cardinality 6 = .ok (.getfield 7, 3) := dk_180 0 7 (dk_at dksJ13_cardinality_0 6 rfl rfl)
theorem dJ13_cardinality_9 : decode cJ13_cardinality 9 = .ok (.if_icmp .ge 21, 3) := dk_162 0 21 (dk_at dksJ13_cardinality_0 9 rfl rfl)
theorem dJ13_cardinality_12 : decode cJ13_cardinality 12 = .ok (.iload_n 1, 1) := dk_27 (dk_at dksJ13_cardinality_0 12 rfl rfl)
theorem dJ13_cardinality_13 : decode cJ13_cardinality 13 = .ok (.aload_n 0, 1) := dk_42 (dk_at dksJ13_cardinality_0 13 rfl rfl)
theorem dJ13_cardinality_14 : decode cJ13_cardinality 14 = .ok (.getfield 11, 3) := dk_180 0 11 (dk_at dksJ13_cardinality_0 14 rfl rfl)
theorem dJ13_cardinality_17 : decode cJ13_cardinality 17 = .ok (.iload_n 2, 1) := dk_28 (dk_at dksJ13_cardinality_0 17 rfl rfl)
theorem dJ13_cardinality_18 : decode cJ13_cardinality 18 = .ok (.laload, 1) := dk_47 (dk_at dksJ13_cardinality_0 18 rfl rfl)
theorem dJ13_cardinality_19 : decode cJ13_cardinality 19 = .ok (.invokestatic 196, 3) := dk_184 0 196 (dk_at dksJ13_cardinality_0 19 rfl rfl)
theorem dJ13_cardinality_22 : decode cJ13_cardinality 22 = .ok (.iadd, 1) := dk_96 (dk_at dksJ13_cardinality_0 22 rfl rfl)
theorem dJ13_cardinality_23 : decode cJ13_cardinality 23 = .ok (.istore_n 1, 1) := dk_60 (dk_at dksJ13_cardinality_0 23 rfl rfl)
theorem dJ13_cardinality_24 : decode cJ13_cardinality 24 = .ok (.iinc 2 1, 3) := dk_132 2 1 (dk_at dksJ13_cardinality_1 0 rfl rfl)
theorem dJ13_cardinality_27 : decode cJ13_cardinality 27 = .ok (.goto (-23), 3) := dk_167 255 233 (dk_at dksJ13_cardinality_1 3 rfl rfl)
theorem dJ13_cardinality_30 : decode cJ13_cardinality 30 = .ok (.iload_n 1, 1) := dk_27 (dk_at dksJ13_cardinality_1 6 rfl rfl)
theorem dJ13_cardinality_31 : decode cJ13_cardinality 31 = .ok (.ireturn, 1) := dk_172 (dk_at dksJ13_cardinality_1 7 rfl rfl)
theorem q142 : (Jvm.Cond.initialized "java/util/BitSet") ∈ lw_all := lw_g (lw_at lw_m1 20 rfl) rfl
theorem q239 : (Jvm.Cond.selects "java/util/BitSet" ({ cls := "java/lang/Object", name := "getClass", desc := "()Ljava/lang/Class;" } : Jvm.MethodName) ({ cls := "java/lang/Object", name := "getClass", desc := "()Ljava/lang/Class;" } : Jvm.MethodName)) ∈ lw_all := lw_g (lw_at lw_m1 117 rfl) rfl
theorem q477 : (Jvm.Cond.instantiable "java/util/BitSet" (3 : Nat)) ∈ lw_all := lw_g (lw_at lw_m2 115 rfl) rfl
theorem q479 : (Jvm.Cond.instanceMethod ({ cls := "java/util/BitSet", name := "<init>", desc := "()V" } : Jvm.MethodName)) ∈ lw_all := lw_g (lw_at lw_m2 117 rfl) rfl
theorem q480 : (Jvm.Cond.code ({ cls := "java/util/BitSet", name := "<init>", desc := "()V" } : Jvm.MethodName) prog_51_method_4_code (1 : Nat) (Option.none : Option Jvm.ClassFile.FieldType)) ∈ lw_all := lw_g (lw_at lw_m2 118 rfl) rfl
theorem q481 : (Jvm.Cond.methodLink "java/util/BitSet" (21 : Nat) ({ cls := "java/lang/Object", name := "<init>", desc := "()V" } : Jvm.MethodName)) ∈ lw_all := lw_g (lw_at lw_m2 119 rfl) rfl
theorem q482 : (Jvm.Cond.methodLink "java/util/BitSet" (27 : Nat) ({ cls := "java/util/BitSet", name := "initWords", desc := "(I)V" } : Jvm.MethodName)) ∈ lw_all := lw_g (lw_at lw_m2 120 rfl) rfl
theorem q483 : (Jvm.Cond.privateMethod ({ cls := "java/util/BitSet", name := "initWords", desc := "(I)V" } : Jvm.MethodName)) ∈ lw_tbl := lw_at lw_m2 121 rfl
theorem q484 : (Jvm.Cond.instanceMethod ({ cls := "java/util/BitSet", name := "initWords", desc := "(I)V" } : Jvm.MethodName)) ∈ lw_all := lw_g (lw_at lw_m2 122 rfl) rfl
theorem q485 : (Jvm.Cond.code ({ cls := "java/util/BitSet", name := "initWords", desc := "(I)V" } : Jvm.MethodName) prog_51_method_6_code (2 : Nat) (Option.none : Option Jvm.ClassFile.FieldType)) ∈ lw_all := lw_g (lw_at lw_m2 123 rfl) rfl
theorem q486 : (Jvm.Cond.methodLink "java/util/BitSet" (52 : Nat) ({ cls := "java/util/BitSet", name := "wordIndex", desc := "(I)I" } : Jvm.MethodName)) ∈ lw_all := lw_g (lw_at lw_m2 124 rfl) rfl
theorem q487 : (Jvm.Cond.static ({ cls := "java/util/BitSet", name := "wordIndex", desc := "(I)I" } : Jvm.MethodName)) ∈ lw_all := lw_g (lw_at lw_m2 125 rfl) rfl
theorem q488 : (Jvm.Cond.code ({ cls := "java/util/BitSet", name := "wordIndex", desc := "(I)I" } : Jvm.MethodName) prog_51_method_1_code (1 : Nat) (Option.some Jvm.ClassFile.FieldType.int)) ∈ lw_all := lw_g (lw_at lw_m2 126 rfl) rfl
theorem q489 : (Jvm.Cond.fieldLink "java/util/BitSet" (11 : Nat) "java/util/BitSet" "words" "[J") ∈ lw_all := lw_g (lw_at lw_m2 127 rfl) rfl
theorem q490 : (Jvm.Cond.fieldLink "java/util/BitSet" (7 : Nat) "java/util/BitSet" "wordsInUse" "I") ∈ lw_all := lw_g (lw_at lw_m2 128 rfl) rfl
theorem q491 : (Jvm.Cond.fieldLink "java/util/BitSet" (24 : Nat) "java/util/BitSet" "sizeIsSticky" "Z") ∈ lw_all := lw_g (lw_at lw_m2 129 rfl) rfl
theorem q492 : (Jvm.Cond.lays "java/util/BitSet" "java/util/BitSet" "words" "[J") ∈ lw_all := lw_g (lw_at lw_m2 130 rfl) rfl
theorem q493 : (Jvm.Cond.soleField "java/util/BitSet" "words") ∈ lw_all := lw_g (lw_at lw_m2 131 rfl) rfl
theorem q494 : (Jvm.Cond.lays "java/util/BitSet" "java/util/BitSet" "wordsInUse" "I") ∈ lw_all := lw_g (lw_at lw_m2 132 rfl) rfl
theorem q495 : (Jvm.Cond.soleField "java/util/BitSet" "wordsInUse") ∈ lw_all := lw_g (lw_at lw_m2 133 rfl) rfl
theorem q496 : (Jvm.Cond.lays "java/util/BitSet" "java/util/BitSet" "sizeIsSticky" "Z") ∈ lw_all := lw_g (lw_at lw_m2 134 rfl) rfl
theorem q497 : (Jvm.Cond.soleField "java/util/BitSet" "sizeIsSticky") ∈ lw_all := lw_g (lw_at lw_m2 135 rfl) rfl
theorem q498 : (Jvm.Cond.superclass "java/util/BitSet" "java/lang/Object") ∈ lw_all := lw_g (lw_at lw_m2 136 rfl) rfl
theorem q1747 : (Jvm.Cond.instanceMethod ({ cls := "java/util/BitSet", name := "clear", desc := "()V" } : Jvm.MethodName)) ∈ lw_all := lw_g (lw_at lw_m7 185 rfl) rfl
theorem q1748 : (Jvm.Cond.selects "java/util/BitSet" ({ cls := "java/util/BitSet", name := "clear", desc := "()V" } : Jvm.MethodName) ({ cls := "java/util/BitSet", name := "clear", desc := "()V" } : Jvm.MethodName)) ∈ lw_all := lw_g (lw_at lw_m7 186 rfl) rfl
theorem q1749 : (Jvm.Cond.code ({ cls := "java/util/BitSet", name := "clear", desc := "()V" } : Jvm.MethodName) prog_51_method_25_code (1 : Nat) (Option.none : Option Jvm.ClassFile.FieldType)) ∈ lw_all := lw_g (lw_at lw_m7 187 rfl) rfl
theorem q1751 : (Jvm.Cond.instanceMethod ({ cls := "java/util/BitSet", name := "or", desc := "(Ljava/util/BitSet;)V" } : Jvm.MethodName)) ∈ lw_all := lw_g (lw_at lw_m7 189 rfl) rfl
theorem q1752 : (Jvm.Cond.selects "java/util/BitSet" ({ cls := "java/util/BitSet", name := "or", desc := "(Ljava/util/BitSet;)V" } : Jvm.MethodName) ({ cls := "java/util/BitSet", name := "or", desc := "(Ljava/util/BitSet;)V" } : Jvm.MethodName)) ∈ lw_all := lw_g (lw_at lw_m7 190 rfl) rfl
theorem q1753 : (Jvm.Cond.code ({ cls := "java/util/BitSet", name := "or", desc := "(Ljava/util/BitSet;)V" } : Jvm.MethodName) prog_51_method_37_code (4 : Nat) (Option.none : Option Jvm.ClassFile.FieldType)) ∈ lw_all := lw_g (lw_at lw_m7 191 rfl) rfl
theorem q1754 : (Jvm.Cond.methodLink "java/util/BitSet" (193 : Nat) ({ cls := "java/lang/Math", name := "min", desc := "(II)I" } : Jvm.MethodName)) ∈ lw_all := lw_g (lw_at lw_m7 192 rfl) rfl
theorem q1755 : (Jvm.Cond.methodLink "java/util/BitSet" (139 : Nat) ({ cls := "java/util/BitSet", name := "ensureCapacity", desc := "(I)V" } : Jvm.MethodName)) ∈ lw_all := lw_g (lw_at lw_m7 193 rfl) rfl
theorem q1756 : (Jvm.Cond.privateMethod ({ cls := "java/util/BitSet", name := "ensureCapacity", desc := "(I)V" } : Jvm.MethodName)) ∈ lw_tbl := lw_at lw_m7 194 rfl
theorem q1757 : (Jvm.Cond.instanceMethod ({ cls := "java/util/BitSet", name := "ensureCapacity", desc := "(I)V" } : Jvm.MethodName)) ∈ lw_all := lw_g (lw_at lw_m7 195 rfl) rfl
theorem q1758 : (Jvm.Cond.code ({ cls := "java/util/BitSet", name := "ensureCapacity", desc := "(I)V" } : Jvm.MethodName) prog_51_method_14_code (3 : Nat) (Option.none : Option Jvm.ClassFile.FieldType)) ∈ lw_all := lw_g (lw_at lw_m7 196 rfl) rfl
theorem q1759 : (Jvm.Cond.methodLink "java/util/BitSet" (133 : Nat) ({ cls := "java/lang/Math", name := "max", desc := "(II)I" } : Jvm.MethodName)) ∈ lw_all := lw_g (lw_at lw_m7 197 rfl) rfl
theorem q1760 : (Jvm.Cond.methodLink "java/util/BitSet" (59 : Nat) ({ cls := "java/util/Arrays", name := "copyOf", desc := "([JI)[J" } : Jvm.MethodName)) ∈ lw_all := lw_g (lw_at lw_m7 198 rfl) rfl
theorem q1768 : (Jvm.Cond.methodLink "java/util/BitSet" (199 : Nat) ({ cls := "java/lang/System", name := "arraycopy", desc := "(Ljava/lang/Object;ILjava/lang/Object;II)V" } : Jvm.MethodName)) ∈ lw_all := lw_g (lw_at lw_m7 206 rfl) rfl
theorem q1769 : (Jvm.Cond.methodLink "java/util/BitSet" (56 : Nat) ({ cls := "java/util/BitSet", name := "checkInvariants", desc := "()V" } : Jvm.MethodName)) ∈ lw_all := lw_g (lw_at lw_m7 207 rfl) rfl
theorem q1770 : (Jvm.Cond.privateMethod ({ cls := "java/util/BitSet", name := "checkInvariants", desc := "()V" } : Jvm.MethodName)) ∈ lw_tbl := lw_at lw_m7 208 rfl
theorem q1771 : (Jvm.Cond.instanceMethod ({ cls := "java/util/BitSet", name := "checkInvariants", desc := "()V" } : Jvm.MethodName)) ∈ lw_all := lw_g (lw_at lw_m7 209 rfl) rfl
theorem q1772 : (Jvm.Cond.code ({ cls := "java/util/BitSet", name := "checkInvariants", desc := "()V" } : Jvm.MethodName) prog_51_method_2_code (1 : Nat) (Option.none : Option Jvm.ClassFile.FieldType)) ∈ lw_all := lw_g (lw_at lw_m7 210 rfl) rfl
theorem q1773 : (Jvm.Cond.fieldLink "java/util/BitSet" (3 : Nat) "java/util/BitSet" "$assertionsDisabled" "Z") ∈ lw_all := lw_g (lw_at lw_m7 211 rfl) rfl
theorem q1774 : (Jvm.Cond.laysStatic "java/util/BitSet" "$assertionsDisabled" "Z") ∈ lw_tbl := lw_at lw_m7 212 rfl
theorem q1966 : (Jvm.Cond.instanceMethod ({ cls := "java/util/BitSet", name := "set", desc := "(I)V" } : Jvm.MethodName)) ∈ lw_all := lw_g (lw_at lw_m8 164 rfl) rfl
theorem q1967 : (Jvm.Cond.selects "java/util/BitSet" ({ cls := "java/util/BitSet", name := "set", desc := "(I)V" } : Jvm.MethodName) ({ cls := "java/util/BitSet", name := "set", desc := "(I)V" } : Jvm.MethodName)) ∈ lw_all := lw_g (lw_at lw_m8 165 rfl) rfl
theorem q1968 : (Jvm.Cond.code ({ cls := "java/util/BitSet", name := "set", desc := "(I)V" } : Jvm.MethodName) prog_51_method_19_code (3 : Nat) (Option.none : Option Jvm.ClassFile.FieldType)) ∈ lw_all := lw_g (lw_at lw_m8 166 rfl) rfl
theorem q1969 : (Jvm.Cond.classLink "java/util/BitSet" (142 : Nat) "java/lang/IndexOutOfBoundsException") ∈ lw_all := lw_g (lw_at lw_m8 167 rfl) rfl
theorem q1970 : (Jvm.Cond.classLink "java/util/BitSet" (33 : Nat) "java/lang/StringBuilder") ∈ lw_all := lw_g (lw_at lw_m8 168 rfl) rfl
theorem q1971 : (Jvm.Cond.methodLink "java/util/BitSet" (35 : Nat) ({ cls := "java/lang/StringBuilder", name := "<init>", desc := "()V" } : Jvm.MethodName)) ∈ lw_all := lw_g (lw_at lw_m8 169 rfl) rfl
theorem q1972 : (Jvm.Cond.stringRef "java/util/BitSet" (153 : Nat) "bitIndex < 0: ") ∈ lw_tbl := lw_at lw_m8 170 rfl
theorem q1973 : (Jvm.Cond.methodLink "java/util/BitSet" (38 : Nat) ({ cls := "java/lang/StringBuilder", name := "append", desc := "(Ljava/lang/String;)Ljava/lang/StringBuilder;" } : Jvm.MethodName)) ∈ lw_all := lw_g (lw_at lw_m8 171 rfl) rfl
theorem q1974 : (Jvm.Cond.methodLink "java/util/BitSet" (42 : Nat) ({ cls := "java/lang/StringBuilder", name := "append", desc := "(I)Ljava/lang/StringBuilder;" } : Jvm.MethodName)) ∈ lw_all := lw_g (lw_at lw_m8 172 rfl) rfl
theorem q1975 : (Jvm.Cond.methodLink "java/util/BitSet" (45 : Nat) ({ cls := "java/lang/StringBuilder", name := "toString", desc := "()Ljava/lang/String;" } : Jvm.MethodName)) ∈ lw_all := lw_g (lw_at lw_m8 173 rfl) rfl
theorem q1976 : (Jvm.Cond.methodLink "java/util/BitSet" (146 : Nat) ({ cls := "java/lang/IndexOutOfBoundsException", name := "<init>", desc := "(Ljava/lang/String;)V" } : Jvm.MethodName)) ∈ lw_all := lw_g (lw_at lw_m8 174 rfl) rfl
theorem q1977 : (Jvm.Cond.methodLink "java/util/BitSet" (155 : Nat) ({ cls := "java/util/BitSet", name := "expandTo", desc := "(I)V" } : Jvm.MethodName)) ∈ lw_all := lw_g (lw_at lw_m8 175 rfl) rfl
theorem q1978 : (Jvm.Cond.privateMethod ({ cls := "java/util/BitSet", name := "expandTo", desc := "(I)V" } : Jvm.MethodName)) ∈ lw_tbl := lw_at lw_m8 176 rfl
theorem q1979 : (Jvm.Cond.instanceMethod ({ cls := "java/util/BitSet", name := "expandTo", desc := "(I)V" } : Jvm.MethodName)) ∈ lw_all := lw_g (lw_at lw_m8 177 rfl) rfl
theorem q1980 : (Jvm.Cond.code ({ cls := "java/util/BitSet", name := "expandTo", desc := "(I)V" } : Jvm.MethodName) prog_51_method_15_code (3 : Nat) (Option.none : Option Jvm.ClassFile.FieldType)) ∈ lw_all := lw_g (lw_at lw_m8 178 rfl) rfl
theorem q2246 : (Jvm.Cond.instanceMethod ({ cls := "java/util/BitSet", name := "cardinality", desc := "()I" } : Jvm.MethodName)) ∈ lw_all := lw_g (lw_at lw_m9 204 rfl) rfl
theorem q2247 : (Jvm.Cond.selects "java/util/BitSet" ({ cls := "java/util/BitSet", name := "cardinality", desc := "()I" } : Jvm.MethodName) ({ cls := "java/util/BitSet", name := "cardinality", desc := "()I" } : Jvm.MethodName)) ∈ lw_all := lw_g (lw_at lw_m9 205 rfl) rfl
theorem q2248 : (Jvm.Cond.code ({ cls := "java/util/BitSet", name := "cardinality", desc := "()I" } : Jvm.MethodName) prog_51_method_35_code (3 : Nat) (Option.some Jvm.ClassFile.FieldType.int)) ∈ lw_all := lw_g (lw_at lw_m9 206 rfl) rfl
theorem q2249 : (Jvm.Cond.methodLink "java/util/BitSet" (196 : Nat) ({ cls := "java/lang/Long", name := "bitCount", desc := "(J)I" } : Jvm.MethodName)) ∈ lw_all := lw_g (lw_at lw_m9 207 rfl) rfl
theorem q2978 : (Jvm.Cond.castable "java/util/BitSet" "java/lang/Object") ∈ lw_tbl := lw_at lw_m12 216 rfl

abbrev cJ14_init : ByteArray := prog_39_method_1_code
def yJ14_init : MethodName := ⟨RJ14, "<init>", "()V"⟩
def dkwJ14_init_1 : List UInt8 := [182, 0, 27, 87, 177]
abbrev dktJ14_init_1 : List UInt8 := dkwJ14_init_1 ++ []
def dkwJ14_init_0 : List UInt8 := [42, 183, 0, 1, 42, 42, 181, 0, 7, 42, 178, 0, 13, 181, 0, 17, 42, 178, 0, 20, 181, 0, 24, 42]
abbrev dktJ14_init_0 : List UInt8 := dkwJ14_init_0 ++ dktJ14_init_1
theorem dksJ14_init_0 : cJ14_init.data.toList.drop 0 = dktJ14_init_0 := by decide +kernel
theorem dksJ14_init_1 : cJ14_init.data.toList.drop 24 = dktJ14_init_1 := dk_seg dksJ14_init_0 24 rfl rfl
theorem dJ14_init_0 : decode cJ14_init 0 = .ok (.aload_n 0, 1) := dk_42 (dk_at dksJ14_init_0 0 rfl rfl)
theorem dJ14_init_1 : decode cJ14_init 1 = .ok (.invokespecial 1, 3) := dk_183 0 1 (dk_at dksJ14_init_0 1 rfl rfl)
theorem dJ14_init_4 : decode cJ14_init 4 = .ok (.aload_n 0, 1) := dk_42 (dk_at dksJ14_init_0 4 rfl rfl)
theorem dJ14_init_5 : decode cJ14_init 5 = .ok (.aload_n 0, 1) := dk_42 (dk_at dksJ14_init_0 5 rfl rfl)
theorem dJ14_init_6 : decode cJ14_init 6 = .ok (.putfield 7, 3) := dk_181 0 7 (dk_at dksJ14_init_0 6 rfl rfl)
theorem dJ14_init_9 : decode cJ14_init 9 = .ok (.aload_n 0, 1) := dk_42 (dk_at dksJ14_init_0 9 rfl rfl)
theorem dJ14_init_10 : decode cJ14_init 10 = .ok (.getstatic 13, 3) := dk_178 0 13 (dk_at dksJ14_init_0 10 rfl rfl)
theorem dJ14_init_13 : decode cJ14_init 13 = .ok (.putfield 17, 3) := dk_181 0 17 (dk_at dksJ14_init_0 13 rfl rfl)
theorem dJ14_init_16 : decode cJ14_init 16 = .ok (.aload_n 0, 1) := dk_42 (dk_at dksJ14_init_0 16 rfl rfl)
theorem dJ14_init_17 : decode cJ14_init 17 = .ok (.getstatic 20, 3) := dk_178 0 20 (dk_at dksJ14_init_0 17 rfl rfl)
theorem dJ14_init_20 : decode cJ14_init 20 = .ok (.putfield 24, 3) := dk_181 0 24 (dk_at dksJ14_init_0 20 rfl rfl)
theorem dJ14_init_23 : decode cJ14_init 23 = .ok (.aload_n 0, 1) := dk_42 (dk_at dksJ14_init_0 23 rfl rfl)
theorem dJ14_init_24 : decode cJ14_init 24 = .ok (.invokevirtual 27, 3) := dk_182 0 27 (dk_at dksJ14_init_1 0 rfl rfl)
theorem dJ14_init_27 : decode cJ14_init 27 = .ok (.pop, 1) := dk_87 (dk_at dksJ14_init_1 3 rfl rfl)
theorem dJ14_init_28 : decode cJ14_init 28 = .ok (.return_, 1) := dk_177 (dk_at dksJ14_init_1 4 rfl rfl)
abbrev cJ14_init_2 : ByteArray := prog_39_method_2_code
def yJ14_init_2 : MethodName := ⟨RJ14, "<init>", "(Ljava/lang/String;)V"⟩
def dkwJ14_init_2_1 : List UInt8 := [182, 0, 27, 87, 42, 43, 181, 0, 31, 177]
abbrev dktJ14_init_2_1 : List UInt8 := dkwJ14_init_2_1 ++ []
def dkwJ14_init_2_0 : List UInt8 := [42, 183, 0, 1, 42, 42, 181, 0, 7, 42, 178, 0, 13, 181, 0, 17, 42, 178, 0, 20, 181, 0, 24, 42]
abbrev dktJ14_init_2_0 : List UInt8 := dkwJ14_init_2_0 ++ dktJ14_init_2_1
theorem dksJ14_init_2_0 : cJ14_init_2.data.toList.drop 0 = dktJ14_init_2_0 := by decide +kernel
theorem dksJ14_init_2_1 : cJ14_init_2.data.toList.drop 24 = dktJ14_init_2_1 := dk_seg dksJ14_init_2_0 24 rfl rfl
theorem dJ14_init_2_0 : decode cJ14_init_2 0 = .ok (.aload_n 0, 1) := dk_42 (dk_at dksJ14_init_2_0 0 rfl rfl)
theorem dJ14_init_2_1 : decode cJ14_init_2 1 = .ok (.invokespecial 1, 3) := dk_183 0 1 (dk_at dksJ14_init_2_0 1 rfl rfl)
theorem dJ14_init_2_4 : decode cJ14_init_2 4 = .ok (.aload_n 0, 1) := dk_42 (dk_at dksJ14_init_2_0 4 rfl rfl)
theorem dJ14_init_2_5 : decode cJ14_init_2 5 = .ok (.aload_n 0, 1) := dk_42 (dk_at dksJ14_init_2_0 5 rfl rfl)
theorem dJ14_init_2_6 : decode cJ14_init_2 6 = .ok (.putfield 7, 3) := dk_181 0 7 (dk_at dksJ14_init_2_0 6 rfl rfl)
theorem dJ14_init_2_9 : decode cJ14_init_2 9 = .ok (.aload_n 0, 1) := dk_42 (dk_at dksJ14_init_2_0 9 rfl rfl)
theorem dJ14_init_2_10 : decode cJ14_init_2 10 = .ok (.getstatic 13, 3) := dk_178 0 13 (dk_at dksJ14_init_2_0 10 rfl rfl)
theorem dJ14_init_2_13 : decode cJ14_init_2 13 = .ok (.putfield 17, 3) := dk_181 0 17 (dk_at dksJ14_init_2_0 13 rfl rfl)
theorem dJ14_init_2_16 : decode cJ14_init_2 16 = .ok (.aload_n 0, 1) := dk_42 (dk_at dksJ14_init_2_0 16 rfl rfl)
theorem dJ14_init_2_17 : decode cJ14_init_2 17 = .ok (.getstatic 20, 3) := dk_178 0 20 (dk_at dksJ14_init_2_0 17 rfl rfl)
theorem dJ14_init_2_20 : decode cJ14_init_2 20 = .ok (.putfield 24, 3) := dk_181 0 24 (dk_at dksJ14_init_2_0 20 rfl rfl)
theorem dJ14_init_2_23 : decode cJ14_init_2 23 = .ok (.aload_n 0, 1) := dk_42 (dk_at dksJ14_init_2_0 23 rfl rfl)
theorem dJ14_init_2_24 : decode cJ14_init_2 24 = .ok (.invokevirtual 27, 3) := dk_182 0 27 (dk_at dksJ14_init_2_1 0 rfl rfl)
theorem dJ14_init_2_27 : decode cJ14_init_2 27 = .ok (.pop, 1) := dk_87 (dk_at dksJ14_init_2_1 3 rfl rfl)
theorem dJ14_init_2_28 : decode cJ14_init_2 28 = .ok (.aload_n 0, 1) := dk_42 (dk_at dksJ14_init_2_1 4 rfl rfl)
theorem dJ14_init_2_29 : decode cJ14_init_2 29 = .ok (.aload_n 1, 1) := dk_43 (dk_at dksJ14_init_2_1 5 rfl rfl)
theorem dJ14_init_2_30 : decode cJ14_init_2 30 = .ok (.putfield 31, 3) := dk_181 0 31 (dk_at dksJ14_init_2_1 6 rfl rfl)
theorem dJ14_init_2_33 : decode cJ14_init_2 33 = .ok (.return_, 1) := dk_177 (dk_at dksJ14_init_2_1 9 rfl rfl)
abbrev cJ14_init_3 : ByteArray := prog_39_method_4_code
def yJ14_init_3 : MethodName := ⟨RJ14, "<init>", "(Ljava/lang/Throwable;)V"⟩
def dkwJ14_init_3_2 : List UInt8 := [181, 0, 7, 177]
abbrev dktJ14_init_3_2 : List UInt8 := dkwJ14_init_3_2 ++ []
def dkwJ14_init_3_1 : List UInt8 := [182, 0, 27, 87, 42, 43, 199, 0, 7, 1, 167, 0, 7, 43, 182, 0, 35, 181, 0, 31, 42, 43]
abbrev dktJ14_init_3_1 : List UInt8 := dkwJ14_init_3_1 ++ dktJ14_init_3_2
def dkwJ14_init_3_0 : List UInt8 := [42, 183, 0, 1, 42, 42, 181, 0, 7, 42, 178, 0, 13, 181, 0, 17, 42, 178, 0, 20, 181, 0, 24, 42]
abbrev dktJ14_init_3_0 : List UInt8 := dkwJ14_init_3_0 ++ dktJ14_init_3_1
theorem dksJ14_init_3_0 : cJ14_init_3.data.toList.drop 0 = dktJ14_init_3_0 := by decide +kernel
theorem dksJ14_init_3_1 : cJ14_init_3.data.toList.drop 24 = dktJ14_init_3_1 := dk_seg dksJ14_init_3_0 24 rfl rfl
theorem dksJ14_init_3_2 : cJ14_init_3.data.toList.drop 46 = dktJ14_init_3_2 := dk_seg dksJ14_init_3_1 22 rfl rfl
theorem dJ14_init_3_0 : decode cJ14_init_3 0 = .ok (.aload_n 0, 1) := dk_42 (dk_at dksJ14_init_3_0 0 rfl rfl)
theorem dJ14_init_3_1 : decode cJ14_init_3 1 = .ok (.invokespecial 1, 3) := dk_183 0 1 (dk_at dksJ14_init_3_0 1 rfl rfl)
theorem dJ14_init_3_4 : decode cJ14_init_3 4 = .ok (.aload_n 0, 1) := dk_42 (dk_at dksJ14_init_3_0 4 rfl rfl)
theorem dJ14_init_3_5 : decode cJ14_init_3 5 = .ok (.aload_n 0, 1) := dk_42 (dk_at dksJ14_init_3_0 5 rfl rfl)
theorem dJ14_init_3_6 : decode cJ14_init_3 6 = .ok (.putfield 7, 3) := dk_181 0 7 (dk_at dksJ14_init_3_0 6 rfl rfl)
theorem dJ14_init_3_9 : decode cJ14_init_3 9 = .ok (.aload_n 0, 1) := dk_42 (dk_at dksJ14_init_3_0 9 rfl rfl)
theorem dJ14_init_3_10 : decode cJ14_init_3 10 = .ok (.getstatic 13, 3) := dk_178 0 13 (dk_at dksJ14_init_3_0 10 rfl rfl)
theorem dJ14_init_3_13 : decode cJ14_init_3 13 = .ok (.putfield 17, 3) := dk_181 0 17 (dk_at dksJ14_init_3_0 13 rfl rfl)
theorem dJ14_init_3_16 : decode cJ14_init_3 16 = .ok (.aload_n 0, 1) := dk_42 (dk_at dksJ14_init_3_0 16 rfl rfl)
theorem dJ14_init_3_17 : decode cJ14_init_3 17 = .ok (.getstatic 20, 3) := dk_178 0 20 (dk_at dksJ14_init_3_0 17 rfl rfl)
theorem dJ14_init_3_20 : decode cJ14_init_3 20 = .ok (.putfield 24, 3) := dk_181 0 24 (dk_at dksJ14_init_3_0 20 rfl rfl)
theorem dJ14_init_3_23 : decode cJ14_init_3 23 = .ok (.aload_n 0, 1) := dk_42 (dk_at dksJ14_init_3_0 23 rfl rfl)
theorem dJ14_init_3_24 : decode cJ14_init_3 24 = .ok (.invokevirtual 27, 3) := dk_182 0 27 (dk_at dksJ14_init_3_1 0 rfl rfl)
theorem dJ14_init_3_27 : decode cJ14_init_3 27 = .ok (.pop, 1) := dk_87 (dk_at dksJ14_init_3_1 3 rfl rfl)
theorem dJ14_init_3_28 : decode cJ14_init_3 28 = .ok (.aload_n 0, 1) := dk_42 (dk_at dksJ14_init_3_1 4 rfl rfl)
theorem dJ14_init_3_29 : decode cJ14_init_3 29 = .ok (.aload_n 1, 1) := dk_43 (dk_at dksJ14_init_3_1 5 rfl rfl)
theorem dJ14_init_3_30 : decode cJ14_init_3 30 = .ok (.ifnonnull 7, 3) := dk_199 0 7 (dk_at dksJ14_init_3_1 6 rfl rfl)
theorem dJ14_init_3_33 : decode cJ14_init_3 33 = .ok (.aconst_null, 1) := dk_1 (dk_at dksJ14_init_3_1 9 rfl rfl)
theorem dJ14_init_3_34 : decode cJ14_init_3 34 = .ok (.goto 7, 3) := dk_167 0 7 (dk_at dksJ14_init_3_1 10 rfl rfl)
theorem dJ14_init_3_37 : decode cJ14_init_3 37 = .ok (.aload_n 1, 1) := dk_43 (dk_at dksJ14_init_3_1 13 rfl rfl)
theorem dJ14_init_3_38 : decode cJ14_init_3 38 = .ok (.invokevirtual 35, 3) := dk_182 0 35 (dk_at dksJ14_init_3_1 14 rfl rfl)
theorem dJ14_init_3_41 : decode cJ14_init_3 41 = .ok (.putfield 31, 3) := dk_181 0 31 (dk_at dksJ14_init_3_1 17 rfl rfl)
theorem dJ14_init_3_44 : decode cJ14_init_3 44 = .ok (.aload_n 0, 1) := dk_42 (dk_at dksJ14_init_3_1 20 rfl rfl)
theorem dJ14_init_3_45 : decode cJ14_init_3 45 = .ok (.aload_n 1, 1) := dk_43 (dk_at dksJ14_init_3_1 21 rfl rfl)
theorem dJ14_init_3_46 : decode cJ14_init_3 46 = .ok (.putfield 7, 3) := dk_181 0 7 (dk_at dksJ14_init_3_2 0 rfl rfl)
theorem dJ14_init_3_49 : decode cJ14_init_3 49 = .ok (.return_, 1) := dk_177 (dk_at dksJ14_init_3_2 3 rfl rfl)
abbrev cJ14_toString : ByteArray := prog_39_method_11_code
def yJ14_toString : MethodName := ⟨RJ14, "toString", "()Ljava/lang/String;"⟩
def dkwJ14_toString_1 : List UInt8 := [43, 182, 0, 49, 18, 81, 182, 0, 49, 44, 182, 0, 49, 182, 0, 60, 167, 0, 4, 43, 176]
abbrev dktJ14_toString_1 : List UInt8 := dkwJ14_toString_1 ++ []
def dkwJ14_toString_0 : List UInt8 := [42, 182, 0, 69, 182, 0, 73, 76, 42, 182, 0, 78, 77, 44, 198, 0, 29, 187, 0, 44, 89, 183, 0, 46]
abbrev dktJ14_toString_0 : List UInt8 := dkwJ14_toString_0 ++ dktJ14_toString_1
theorem dksJ14_toString_0 : cJ14_toString.data.toList.drop 0 = dktJ14_toString_0 := by decide +kernel
theorem dksJ14_toString_1 : cJ14_toString.data.toList.drop 24 = dktJ14_toString_1 := dk_seg dksJ14_toString_0 24 rfl rfl
theorem dJ14_toString_0 : decode cJ14_toString 0 = .ok (.aload_n 0, 1) := dk_42 (dk_at dksJ14_toString_0 0 rfl rfl)
theorem dJ14_toString_1 : decode cJ14_toString 1 = .ok (.invokevirtual 69, 3) := dk_182 0 69 (dk_at dksJ14_toString_0 1 rfl rfl)
theorem dJ14_toString_4 : decode cJ14_toString 4 = .ok (.invokevirtual 73, 3) := dk_182 0 73 (dk_at dksJ14_toString_0 4 rfl rfl)
theorem dJ14_toString_7 : decode cJ14_toString 7 = .ok (.astore_n 1, 1) := dk_76 (dk_at dksJ14_toString_0 7 rfl rfl)
theorem dJ14_toString_8 : decode cJ14_toString 8 = .ok (.aload_n 0, 1) := dk_42 (dk_at dksJ14_toString_0 8 rfl rfl)
theorem dJ14_toString_9 : decode cJ14_toString 9 = .ok (.invokevirtual 78, 3) := dk_182 0 78 (dk_at dksJ14_toString_0 9 rfl rfl)
theorem dJ14_toString_12 : decode cJ14_toString 12 = .ok (.astore_n 2, 1) := dk_77 (dk_at dksJ14_toString_0 12 rfl rfl)
theorem dJ14_toString_13 : decode cJ14_toString 13 = .ok (.aload_n 2, 1) := dk_44 (dk_at dksJ14_toString_0 13 rfl rfl)
theorem dJ14_toString_14 : decode cJ14_toString 14 = .ok (.ifnull 29, 3) := dk_198 0 29 (dk_at dksJ14_toString_0 14 rfl rfl)
theorem dJ14_toString_17 : decode cJ14_toString 17 = .ok (.new 44, 3) := dk_187 0 44 (dk_at dksJ14_toString_0 17 rfl rfl)
theorem dJ14_toString_20 : decode cJ14_toString 20 = .ok (.dup, 1) := dk_89 (dk_at dksJ14_toString_0 20 rfl rfl)
theorem dJ14_toString_21 : decode cJ14_toString 21 = .ok (.invokespecial 46, 3) := dk_183 0 46 (dk_at dksJ14_toString_0 21 rfl rfl)
theorem dJ14_toString_24 : decode cJ14_toString 24 = .ok (.aload_n 1, 1) := dk_43 (dk_at dksJ14_toString_1 0 rfl rfl)
theorem dJ14_toString_25 : decode cJ14_toString 25 = .ok (.invokevirtual 49, 3) := dk_182 0 49 (dk_at dksJ14_toString_1 1 rfl rfl)
theorem dJ14_toString_28 : decode cJ14_toString 28 = .ok (.ldc 81, 2) := dk_18 81 (dk_at dksJ14_toString_1 4 rfl rfl)
theorem dJ14_toString_30 : decode cJ14_toString 30 = .ok (.invokevirtual 49, 3) := dk_182 0 49 (dk_at dksJ14_toString_1 6 rfl rfl)
theorem dJ14_toString_33 : decode cJ14_toString 33 = .ok (.aload_n 2, 1) := dk_44 (dk_at dksJ14_toString_1 9 rfl rfl)
theorem dJ14_toString_34 : decode cJ14_toString 34 = .ok (.invokevirtual 49, 3) := dk_182 0 49 (dk_at dksJ14_toString_1 10 rfl rfl)
theorem dJ14_toString_37 : decode cJ14_toString 37 = .ok (.invokevirtual 60, 3) := dk_182 0 60 (dk_at dksJ14_toString_1 13 rfl rfl)
theorem dJ14_toString_40 : decode cJ14_toString 40 = .ok (.goto 4, 3) := dk_167 0 4 (dk_at dksJ14_toString_1 16 rfl rfl)
theorem dJ14_toString_43 : decode cJ14_toString 43 = .ok (.aload_n 1, 1) := dk_43 (dk_at dksJ14_toString_1 19 rfl rfl)
theorem dJ14_toString_44 : decode cJ14_toString 44 = .ok (.areturn, 1) := dk_176 (dk_at dksJ14_toString_1 20 rfl rfl)
abbrev cJ14_getLocalizedMessage : ByteArray := prog_39_method_7_code
def yJ14_getLocalizedMessage : MethodName := ⟨RJ14, "getLocalizedMessage", "()Ljava/lang/String;"⟩
theorem dJ14_getLocalizedMessage_0 : decode cJ14_getLocalizedMessage 0 = .ok (.aload_n 0, 1) := by decide +kernel
theorem dJ14_getLocalizedMessage_1 : decode cJ14_getLocalizedMessage 1 = .ok (.invokevirtual 39, 3) := by decide +kernel
theorem dJ14_getLocalizedMessage_4 : decode cJ14_getLocalizedMessage 4 = .ok (.areturn, 1) := by decide +kernel
abbrev cJ14_getMessage : ByteArray := prog_39_method_6_code
def yJ14_getMessage : MethodName := ⟨RJ14, "getMessage", "()Ljava/lang/String;"⟩
theorem dJ14_getMessage_0 : decode cJ14_getMessage 0 = .ok (.aload_n 0, 1) := by decide +kernel
theorem dJ14_getMessage_1 : decode cJ14_getMessage 1 = .ok (.getfield 31, 3) := by decide +kernel
theorem dJ14_getMessage_4 : decode cJ14_getMessage 4 = .ok (.areturn, 1) := by decide +kernel
abbrev cJ14_init_4 : ByteArray := prog_39_method_5_code
def yJ14_init_4 : MethodName := ⟨RJ14, "<init>", "(Ljava/lang/String;Ljava/lang/Throwable;ZZ)V"⟩
def dkwJ14_init_4_2 : List UInt8 := [44, 181, 0, 7, 29, 154, 0, 8, 42, 1, 181, 0, 24, 177]
abbrev dktJ14_init_4_2 : List UInt8 := dkwJ14_init_4_2 ++ []
def dkwJ14_init_4_1 : List UInt8 := [21, 4, 153, 0, 11, 42, 182, 0, 27, 87, 167, 0, 8, 42, 1, 181, 0, 17, 42, 43, 181, 0, 31, 42]
abbrev dktJ14_init_4_1 : List UInt8 := dkwJ14_init_4_1 ++ dktJ14_init_4_2
def dkwJ14_init_4_0 : List UInt8 := [42, 183, 0, 1, 42, 42, 181, 0, 7, 42, 178, 0, 13, 181, 0, 17, 42, 178, 0, 20, 181, 0, 24]
abbrev dktJ14_init_4_0 : List UInt8 := dkwJ14_init_4_0 ++ dktJ14_init_4_1
theorem dksJ14_init_4_0 : cJ14_init_4.data.toList.drop 0 = dktJ14_init_4_0 := by decide +kernel
theorem dksJ14_init_4_1 : cJ14_init_4.data.toList.drop 23 = dktJ14_init_4_1 := dk_seg dksJ14_init_4_0 23 rfl rfl
theorem dksJ14_init_4_2 : cJ14_init_4.data.toList.drop 47 = dktJ14_init_4_2 := dk_seg dksJ14_init_4_1 24 rfl rfl
theorem dJ14_init_4_0 : decode cJ14_init_4 0 = .ok (.aload_n 0, 1) := dk_42 (dk_at dksJ14_init_4_0 0 rfl rfl)
theorem dJ14_init_4_1 : decode cJ14_init_4 1 = .ok (.invokespecial 1, 3) := dk_183 0 1 (dk_at dksJ14_init_4_0 1 rfl rfl)
theorem dJ14_init_4_4 : decode cJ14_init_4 4 = .ok (.aload_n 0, 1) := dk_42 (dk_at dksJ14_init_4_0 4 rfl rfl)
theorem dJ14_init_4_5 : decode cJ14_init_4 5 = .ok (.aload_n 0, 1) := dk_42 (dk_at dksJ14_init_4_0 5 rfl rfl)
theorem dJ14_init_4_6 : decode cJ14_init_4 6 = .ok (.putfield 7, 3) := dk_181 0 7 (dk_at dksJ14_init_4_0 6 rfl rfl)
theorem dJ14_init_4_9 : decode cJ14_init_4 9 = .ok (.aload_n 0, 1) := dk_42 (dk_at dksJ14_init_4_0 9 rfl rfl)
theorem dJ14_init_4_10 : decode cJ14_init_4 10 = .ok (.getstatic 13, 3) := dk_178 0 13 (dk_at dksJ14_init_4_0 10 rfl rfl)
theorem dJ14_init_4_13 : decode cJ14_init_4 13 = .ok (.putfield 17, 3) := dk_181 0 17 (dk_at dksJ14_init_4_0 13 rfl rfl)
theorem dJ14_init_4_16 : decode cJ14_init_4 16 = .ok (.aload_n 0, 1) := dk_42 (dk_at dksJ14_init_4_0 16 rfl rfl)
theorem dJ14_init_4_17 : decode cJ14_init_4 17 = .ok (.getstatic 20, 3) := dk_178 0 20 (dk_at dksJ14_init_4_0 17 rfl rfl)
theorem dJ14_init_4_20 : decode cJ14_init_4 20 = .ok (.putfield 24, 3) := dk_181 0 24 (dk_at dksJ14_init_4_0 20 rfl rfl)
theorem dJ14_init_4_23 : decode cJ14_init_4 23 = .ok (.iload 4, 2) := dk_21 4 (dk_at dksJ14_init_4_1 0 rfl rfl)
theorem dJ14_init_4_25 : decode cJ14_init_4 25 = .ok (.ifCond .eq 11, 3) := dk_153 0 11 (dk_at dksJ14_init_4_1 2 rfl rfl)
theorem dJ14_init_4_28 : decode cJ14_init_4 28 = .ok (.aload_n 0, 1) := dk_42 (dk_at dksJ14_init_4_1 5 rfl rfl)
theorem dJ14_init_4_29 : decode cJ14_init_4 29 = .ok (.invokevirtual 27, 3) := dk_182 0 27 (dk_at dksJ14_init_4_1 6 rfl rfl)
theorem dJ14_init_4_32 : decode cJ14_init_4 32 = .ok (.pop, 1) := dk_87 (dk_at dksJ14_init_4_1 9 rfl rfl)
theorem dJ14_init_4_33 : decode cJ14_init_4 33 = .ok (.goto 8, 3) := dk_167 0 8 (dk_at dksJ14_init_4_1 10 rfl rfl)
theorem dJ14_init_4_36 : decode cJ14_init_4 36 = .ok (.aload_n 0, 1) := dk_42 (dk_at dksJ14_init_4_1 13 rfl rfl)
theorem dJ14_init_4_37 : decode cJ14_init_4 37 = .ok (.aconst_null, 1) := dk_1 (dk_at dksJ14_init_4_1 14 rfl rfl)
theorem dJ14_init_4_38 : decode cJ14_init_4 38 = .ok (.putfield 17, 3) := dk_181 0 17 (dk_at dksJ14_init_4_1 15 rfl rfl)
theorem dJ14_init_4_41 : decode cJ14_init_4 41 = .ok (.aload_n 0, 1) := dk_42 (dk_at dksJ14_init_4_1 18 rfl rfl)
theorem dJ14_init_4_42 : decode cJ14_init_4 42 = .ok (.aload_n 1, 1) := dk_43 (dk_at dksJ14_init_4_1 19 rfl rfl)
theorem dJ14_init_4_43 : decode cJ14_init_4 43 = .ok (.putfield 31, 3) := dk_181 0 31 (dk_at dksJ14_init_4_1 20 rfl rfl)
theorem dJ14_init_4_46 : decode cJ14_init_4 46 = .ok (.aload_n 0, 1) := dk_42 (dk_at dksJ14_init_4_1 23 rfl rfl)
theorem dJ14_init_4_47 : decode cJ14_init_4 47 = .ok (.aload_n 2, 1) := dk_44 (dk_at dksJ14_init_4_2 0 rfl rfl)
theorem dJ14_init_4_48 : decode cJ14_init_4 48 = .ok (.putfield 7, 3) := dk_181 0 7 (dk_at dksJ14_init_4_2 1 rfl rfl)
theorem dJ14_init_4_51 : decode cJ14_init_4 51 = .ok (.iload_n 3, 1) := dk_29 (dk_at dksJ14_init_4_2 4 rfl rfl)
theorem dJ14_init_4_52 : decode cJ14_init_4 52 = .ok (.ifCond .ne 8, 3) := dk_154 0 8 (dk_at dksJ14_init_4_2 5 rfl rfl)
theorem dJ14_init_4_55 : decode cJ14_init_4 55 = .ok (.aload_n 0, 1) := dk_42 (dk_at dksJ14_init_4_2 8 rfl rfl)
theorem dJ14_init_4_56 : decode cJ14_init_4 56 = .ok (.aconst_null, 1) := dk_1 (dk_at dksJ14_init_4_2 9 rfl rfl)
theorem dJ14_init_4_57 : decode cJ14_init_4 57 = .ok (.putfield 24, 3) := dk_181 0 24 (dk_at dksJ14_init_4_2 10 rfl rfl)
theorem dJ14_init_4_60 : decode cJ14_init_4 60 = .ok (.return_, 1) := dk_177 (dk_at dksJ14_init_4_2 13 rfl rfl)
theorem q144 : (Jvm.Cond.initialized "java/lang/Throwable") ∈ lw_all := lw_g (lw_at lw_m1 22 rfl) rfl
theorem q610 : (Jvm.Cond.declares ({ cls := "java/lang/Throwable", name := "<init>", desc := "()V" } : Jvm.MethodName)) ∈ lw_tbl := lw_at lw_m3 8 rfl
theorem q611 : (Jvm.Cond.declares ({ cls := "java/lang/Throwable", name := "<init>", desc := "(Ljava/lang/String;)V" } : Jvm.MethodName)) ∈ lw_tbl := lw_at lw_m3 9 rfl
theorem q615 : (Jvm.Cond.lays "java/lang/Throwable" "java/lang/Throwable" "cause" "Ljava/lang/Throwable;") ∈ lw_all := lw_g (lw_at lw_m3 13 rfl) rfl
theorem q617 : (Jvm.Cond.lays "java/lang/Throwable" "java/lang/Throwable" "stackTrace" "[Ljava/lang/StackTraceElement;") ∈ lw_all := lw_g (lw_at lw_m3 15 rfl) rfl
theorem q619 : (Jvm.Cond.lays "java/lang/Throwable" "java/lang/Throwable" "suppressedExceptions" "Ljava/util/List;") ∈ lw_all := lw_g (lw_at lw_m3 17 rfl) rfl
theorem q621 : (Jvm.Cond.lays "java/lang/Throwable" "java/lang/Throwable" "detailMessage" "Ljava/lang/String;") ∈ lw_all := lw_g (lw_at lw_m3 19 rfl) rfl
theorem q623 : (Jvm.Cond.lays "java/lang/Throwable" "java/lang/Throwable" "backtrace" "Ljava/lang/Object;") ∈ lw_all := lw_g (lw_at lw_m3 21 rfl) rfl
theorem q624 : (Jvm.Cond.fieldLink "java/lang/Throwable" (198 : Nat) "java/lang/Throwable" "backtrace" "Ljava/lang/Object;") ∈ lw_all := lw_g (lw_at lw_m3 22 rfl) rfl
theorem q625 : (Jvm.Cond.superclass "java/lang/Throwable" "java/lang/Object") ∈ lw_all := lw_g (lw_at lw_m3 23 rfl) rfl
theorem q626 : (Jvm.Cond.instanceMethod ({ cls := "java/lang/Throwable", name := "<init>", desc := "()V" } : Jvm.MethodName)) ∈ lw_all := lw_g (lw_at lw_m3 24 rfl) rfl
theorem q627 : (Jvm.Cond.code ({ cls := "java/lang/Throwable", name := "<init>", desc := "()V" } : Jvm.MethodName) prog_39_method_1_code (1 : Nat) (Option.none : Option Jvm.ClassFile.FieldType)) ∈ lw_all := lw_g (lw_at lw_m3 25 rfl) rfl
theorem q628 : (Jvm.Cond.methodLink "java/lang/Throwable" (1 : Nat) ({ cls := "java/lang/Object", name := "<init>", desc := "()V" } : Jvm.MethodName)) ∈ lw_all := lw_g (lw_at lw_m3 26 rfl) rfl
theorem q629 : (Jvm.Cond.fieldLink "java/lang/Throwable" (13 : Nat) "java/lang/Throwable" "UNASSIGNED_STACK" "[Ljava/lang/StackTraceElement;") ∈ lw_all := lw_g (lw_at lw_m3 27 rfl) rfl
theorem q630 : (Jvm.Cond.laysStatic "java/lang/Throwable" "UNASSIGNED_STACK" "[Ljava/lang/StackTraceElement;") ∈ lw_tbl := lw_at lw_m3 28 rfl
theorem q631 : (Jvm.Cond.fieldLink "java/lang/Throwable" (20 : Nat) "java/lang/Throwable" "SUPPRESSED_SENTINEL" "Ljava/util/List;") ∈ lw_all := lw_g (lw_at lw_m3 29 rfl) rfl
theorem q632 : (Jvm.Cond.laysStatic "java/lang/Throwable" "SUPPRESSED_SENTINEL" "Ljava/util/List;") ∈ lw_tbl := lw_at lw_m3 30 rfl
theorem q633 : (Jvm.Cond.methodLink "java/lang/Throwable" (27 : Nat) ({ cls := "java/lang/Throwable", name := "fillInStackTrace", desc := "()Ljava/lang/Throwable;" } : Jvm.MethodName)) ∈ lw_all := lw_g (lw_at lw_m3 31 rfl) rfl
theorem q634 : (Jvm.Cond.instanceMethod ({ cls := "java/lang/Throwable", name := "fillInStackTrace", desc := "()Ljava/lang/Throwable;" } : Jvm.MethodName)) ∈ lw_all := lw_g (lw_at lw_m3 32 rfl) rfl
theorem q635 : (Jvm.Cond.sameMethod "java/lang/Throwable" "java/lang/Throwable" "fillInStackTrace" "()Ljava/lang/Throwable;") ∈ lw_all := lw_g (lw_at lw_m3 33 rfl) rfl
theorem q641 : (Jvm.Cond.codeSync ({ cls := "java/lang/Throwable", name := "fillInStackTrace", desc := "()Ljava/lang/Throwable;" } : Jvm.MethodName) prog_39_method_18_code (1 : Nat) (Option.some (Jvm.ClassFile.FieldType.object "java/lang/Throwable"))) ∈ lw_all := lw_g (lw_at lw_m3 39 rfl) rfl
theorem q642 : (Jvm.Cond.methodLink "java/lang/Throwable" (202 : Nat) ({ cls := "java/lang/Throwable", name := "fillInStackTrace", desc := "(I)Ljava/lang/Throwable;" } : Jvm.MethodName)) ∈ lw_all := lw_g (lw_at lw_m3 40 rfl) rfl
theorem q643 : (Jvm.Cond.privateMethod ({ cls := "java/lang/Throwable", name := "fillInStackTrace", desc := "(I)Ljava/lang/Throwable;" } : Jvm.MethodName)) ∈ lw_tbl := lw_at lw_m3 41 rfl
theorem q644 : (Jvm.Cond.instanceMethod ({ cls := "java/lang/Throwable", name := "fillInStackTrace", desc := "(I)Ljava/lang/Throwable;" } : Jvm.MethodName)) ∈ lw_all := lw_g (lw_at lw_m3 42 rfl) rfl
theorem q645 : (Jvm.Cond.instantiable "java/lang/Throwable" (6 : Nat)) ∈ lw_all := lw_g (lw_at lw_m3 43 rfl) rfl
theorem q646 : (Jvm.Cond.native ({ cls := "java/lang/Throwable", name := "fillInStackTrace", desc := "(I)Ljava/lang/Throwable;" } : Jvm.MethodName)) ∈ lw_all := lw_g (lw_at lw_m3 44 rfl) rfl
theorem q897 : (Jvm.Cond.instanceMethod ({ cls := "java/lang/Throwable", name := "<init>", desc := "(Ljava/lang/String;)V" } : Jvm.MethodName)) ∈ lw_all := lw_g (lw_at lw_m4 55 rfl) rfl
theorem q898 : (Jvm.Cond.code ({ cls := "java/lang/Throwable", name := "<init>", desc := "(Ljava/lang/String;)V" } : Jvm.MethodName) prog_39_method_2_code (2 : Nat) (Option.none : Option Jvm.ClassFile.FieldType)) ∈ lw_all := lw_g (lw_at lw_m4 56 rfl) rfl
theorem q899 : (Jvm.Cond.fieldLink "java/lang/Throwable" (198 : Nat) "java/lang/Throwable" "backtrace" "Ljava/lang/Object;") ∈ lw_all := lw_g (lw_at lw_m4 57 rfl) rfl
theorem q900 : (Jvm.Cond.fieldLink "java/lang/Throwable" (31 : Nat) "java/lang/Throwable" "detailMessage" "Ljava/lang/String;") ∈ lw_all := lw_g (lw_at lw_m4 58 rfl) rfl
theorem q901 : (Jvm.Cond.fieldLink "java/lang/Throwable" (7 : Nat) "java/lang/Throwable" "cause" "Ljava/lang/Throwable;") ∈ lw_all := lw_g (lw_at lw_m4 59 rfl) rfl
theorem q902 : (Jvm.Cond.fieldLink "java/lang/Throwable" (17 : Nat) "java/lang/Throwable" "stackTrace" "[Ljava/lang/StackTraceElement;") ∈ lw_all := lw_g (lw_at lw_m4 60 rfl) rfl
theorem q903 : (Jvm.Cond.fieldLink "java/lang/Throwable" (24 : Nat) "java/lang/Throwable" "suppressedExceptions" "Ljava/util/List;") ∈ lw_all := lw_g (lw_at lw_m4 61 rfl) rfl
theorem q904 : (Jvm.Cond.soleField "java/lang/Throwable" "backtrace") ∈ lw_all := lw_g (lw_at lw_m4 62 rfl) rfl
theorem q905 : (Jvm.Cond.soleField "java/lang/Throwable" "detailMessage") ∈ lw_all := lw_g (lw_at lw_m4 63 rfl) rfl
theorem q906 : (Jvm.Cond.soleField "java/lang/Throwable" "cause") ∈ lw_all := lw_g (lw_at lw_m4 64 rfl) rfl
theorem q907 : (Jvm.Cond.soleField "java/lang/Throwable" "stackTrace") ∈ lw_all := lw_g (lw_at lw_m4 65 rfl) rfl
theorem q909 : (Jvm.Cond.soleField "java/lang/Throwable" "depth") ∈ lw_all := lw_g (lw_at lw_m4 67 rfl) rfl
theorem q910 : (Jvm.Cond.soleField "java/lang/Throwable" "suppressedExceptions") ∈ lw_all := lw_g (lw_at lw_m4 68 rfl) rfl
theorem q1035 : (Jvm.Cond.instanceMethod ({ cls := "java/lang/Throwable", name := "<init>", desc := "(Ljava/lang/Throwable;)V" } : Jvm.MethodName)) ∈ lw_all := lw_g (lw_at lw_m4 193 rfl) rfl
theorem q1036 : (Jvm.Cond.code ({ cls := "java/lang/Throwable", name := "<init>", desc := "(Ljava/lang/Throwable;)V" } : Jvm.MethodName) prog_39_method_4_code (2 : Nat) (Option.none : Option Jvm.ClassFile.FieldType)) ∈ lw_all := lw_g (lw_at lw_m4 194 rfl) rfl
theorem q1037 : (Jvm.Cond.methodLink "java/lang/Throwable" (35 : Nat) ({ cls := "java/lang/Throwable", name := "toString", desc := "()Ljava/lang/String;" } : Jvm.MethodName)) ∈ lw_all := lw_g (lw_at lw_m4 195 rfl) rfl
theorem q1038 : (Jvm.Cond.instanceMethod ({ cls := "java/lang/Throwable", name := "toString", desc := "()Ljava/lang/String;" } : Jvm.MethodName)) ∈ lw_all := lw_g (lw_at lw_m4 196 rfl) rfl
theorem q1039 : (Jvm.Cond.sameMethod "java/lang/Throwable" "java/lang/Throwable" "toString" "()Ljava/lang/String;") ∈ lw_all := lw_g (lw_at lw_m4 197 rfl) rfl
theorem q1046 : (Jvm.Cond.code ({ cls := "java/lang/Throwable", name := "toString", desc := "()Ljava/lang/String;" } : Jvm.MethodName) prog_39_method_11_code (3 : Nat) (Option.some (Jvm.ClassFile.FieldType.object "java/lang/String"))) ∈ lw_all := lw_g (lw_at lw_m4 204 rfl) rfl
theorem q1047 : (Jvm.Cond.methodLink "java/lang/Throwable" (69 : Nat) ({ cls := "java/lang/Object", name := "getClass", desc := "()Ljava/lang/Class;" } : Jvm.MethodName)) ∈ lw_all := lw_g (lw_at lw_m4 205 rfl) rfl
theorem q1048 : (Jvm.Cond.methodLink "java/lang/Throwable" (78 : Nat) ({ cls := "java/lang/Throwable", name := "getLocalizedMessage", desc := "()Ljava/lang/String;" } : Jvm.MethodName)) ∈ lw_all := lw_g (lw_at lw_m4 206 rfl) rfl
theorem q1049 : (Jvm.Cond.instanceMethod ({ cls := "java/lang/Throwable", name := "getLocalizedMessage", desc := "()Ljava/lang/String;" } : Jvm.MethodName)) ∈ lw_all := lw_g (lw_at lw_m4 207 rfl) rfl
theorem q1050 : (Jvm.Cond.sameMethod "java/lang/Throwable" "java/lang/Throwable" "getLocalizedMessage" "()Ljava/lang/String;") ∈ lw_all := lw_g (lw_at lw_m4 208 rfl) rfl
theorem q1057 : (Jvm.Cond.code ({ cls := "java/lang/Throwable", name := "getLocalizedMessage", desc := "()Ljava/lang/String;" } : Jvm.MethodName) prog_39_method_7_code (1 : Nat) (Option.some (Jvm.ClassFile.FieldType.object "java/lang/String"))) ∈ lw_all := lw_g (lw_at lw_m4 215 rfl) rfl
theorem q1058 : (Jvm.Cond.methodLink "java/lang/Throwable" (39 : Nat) ({ cls := "java/lang/Throwable", name := "getMessage", desc := "()Ljava/lang/String;" } : Jvm.MethodName)) ∈ lw_all := lw_g (lw_at lw_m4 216 rfl) rfl
theorem q1059 : (Jvm.Cond.instanceMethod ({ cls := "java/lang/Throwable", name := "getMessage", desc := "()Ljava/lang/String;" } : Jvm.MethodName)) ∈ lw_all := lw_g (lw_at lw_m4 217 rfl) rfl
theorem q1060 : (Jvm.Cond.sameMethod "java/lang/Throwable" "java/lang/Throwable" "getMessage" "()Ljava/lang/String;") ∈ lw_all := lw_g (lw_at lw_m4 218 rfl) rfl
theorem q1067 : (Jvm.Cond.code ({ cls := "java/lang/Throwable", name := "getMessage", desc := "()Ljava/lang/String;" } : Jvm.MethodName) prog_39_method_6_code (1 : Nat) (Option.some (Jvm.ClassFile.FieldType.object "java/lang/String"))) ∈ lw_all := lw_g (lw_at lw_m4 225 rfl) rfl
theorem q1068 : (Jvm.Cond.classLink "java/lang/Throwable" (44 : Nat) "java/lang/StringBuilder") ∈ lw_all := lw_g (lw_at lw_m4 226 rfl) rfl
theorem q1069 : (Jvm.Cond.methodLink "java/lang/Throwable" (46 : Nat) ({ cls := "java/lang/StringBuilder", name := "<init>", desc := "()V" } : Jvm.MethodName)) ∈ lw_all := lw_g (lw_at lw_m4 227 rfl) rfl
theorem q1070 : (Jvm.Cond.methodLink "java/lang/Throwable" (49 : Nat) ({ cls := "java/lang/StringBuilder", name := "append", desc := "(Ljava/lang/String;)Ljava/lang/StringBuilder;" } : Jvm.MethodName)) ∈ lw_all := lw_g (lw_at lw_m4 228 rfl) rfl
theorem q1071 : (Jvm.Cond.stringRef "java/lang/Throwable" (81 : Nat) ": ") ∈ lw_tbl := lw_at lw_m4 229 rfl
theorem q1072 : (Jvm.Cond.methodLink "java/lang/Throwable" (60 : Nat) ({ cls := "java/lang/StringBuilder", name := "toString", desc := "()Ljava/lang/String;" } : Jvm.MethodName)) ∈ lw_all := lw_g (lw_at lw_m4 230 rfl) rfl
theorem q1390 : (Jvm.Cond.instanceMethod ({ cls := "java/lang/Throwable", name := "<init>", desc := "(Ljava/lang/String;Ljava/lang/Throwable;ZZ)V" } : Jvm.MethodName)) ∈ lw_all := lw_g (lw_at lw_m6 68 rfl) rfl
theorem q1391 : (Jvm.Cond.code ({ cls := "java/lang/Throwable", name := "<init>", desc := "(Ljava/lang/String;Ljava/lang/Throwable;ZZ)V" } : Jvm.MethodName) prog_39_method_5_code (5 : Nat) (Option.none : Option Jvm.ClassFile.FieldType)) ∈ lw_all := lw_g (lw_at lw_m6 69 rfl) rfl
theorem q2948 : (Jvm.Cond.sameMethod "java/lang/Throwable" "java/lang/Throwable" "fillInStackTrace" "(I)Ljava/lang/Throwable;") ∈ lw_all := lw_g (lw_at lw_m12 186 rfl) rfl
theorem q2996 : (Jvm.Cond.castable "java/lang/Throwable" "java/lang/Object") ∈ lw_tbl := lw_at lw_m12 234 rfl

abbrev cJ15_init : ByteArray := prog_25_method_2_code
def yJ15_init : MethodName := ⟨RJ15, "<init>", "(Ljava/lang/String;)V"⟩
def dkwJ15_init_0 : List UInt8 := [42, 43, 183, 0, 7, 177]
abbrev dktJ15_init_0 : List UInt8 := dkwJ15_init_0 ++ []
theorem dksJ15_init_0 : cJ15_init.data.toList.drop 0 = dktJ15_init_0 := by decide +kernel
theorem dJ15_init_0 : decode cJ15_init 0 = .ok (.aload_n 0, 1) := dk_42 (dk_at dksJ15_init_0 0 rfl rfl)
theorem dJ15_init_1 : decode cJ15_init 1 = .ok (.aload_n 1, 1) := dk_43 (dk_at dksJ15_init_0 1 rfl rfl)
theorem dJ15_init_2 : decode cJ15_init 2 = .ok (.invokespecial 7, 3) := dk_183 0 7 (dk_at dksJ15_init_0 2 rfl rfl)
theorem dJ15_init_5 : decode cJ15_init 5 = .ok (.return_, 1) := dk_177 (dk_at dksJ15_init_0 5 rfl rfl)
abbrev cJ15_init_2 : ByteArray := prog_25_method_4_code
def yJ15_init_2 : MethodName := ⟨RJ15, "<init>", "(Ljava/lang/Throwable;)V"⟩
def dkwJ15_init_2_0 : List UInt8 := [42, 43, 183, 0, 13, 177]
abbrev dktJ15_init_2_0 : List UInt8 := dkwJ15_init_2_0 ++ []
theorem dksJ15_init_2_0 : cJ15_init_2.data.toList.drop 0 = dktJ15_init_2_0 := by decide +kernel
theorem dJ15_init_2_0 : decode cJ15_init_2 0 = .ok (.aload_n 0, 1) := dk_42 (dk_at dksJ15_init_2_0 0 rfl rfl)
theorem dJ15_init_2_1 : decode cJ15_init_2 1 = .ok (.aload_n 1, 1) := dk_43 (dk_at dksJ15_init_2_0 1 rfl rfl)
theorem dJ15_init_2_2 : decode cJ15_init_2 2 = .ok (.invokespecial 13, 3) := dk_183 0 13 (dk_at dksJ15_init_2_0 2 rfl rfl)
theorem dJ15_init_2_5 : decode cJ15_init_2 5 = .ok (.return_, 1) := dk_177 (dk_at dksJ15_init_2_0 5 rfl rfl)
abbrev cJ15_init_3 : ByteArray := prog_25_method_1_code
def yJ15_init_3 : MethodName := ⟨RJ15, "<init>", "()V"⟩
theorem dJ15_init_3_0 : decode cJ15_init_3 0 = .ok (.aload_n 0, 1) := by decide +kernel
theorem dJ15_init_3_1 : decode cJ15_init_3 1 = .ok (.invokespecial 1, 3) := by decide +kernel
theorem dJ15_init_3_4 : decode cJ15_init_3 4 = .ok (.return_, 1) := by decide +kernel
abbrev cJ15_init_4 : ByteArray := prog_25_method_5_code
def yJ15_init_4 : MethodName := ⟨RJ15, "<init>", "(Ljava/lang/String;Ljava/lang/Throwable;ZZ)V"⟩
def dkwJ15_init_4_0 : List UInt8 := [42, 43, 44, 29, 21, 4, 183, 0, 16, 177]
abbrev dktJ15_init_4_0 : List UInt8 := dkwJ15_init_4_0 ++ []
theorem dksJ15_init_4_0 : cJ15_init_4.data.toList.drop 0 = dktJ15_init_4_0 := by decide +kernel
theorem dJ15_init_4_0 : decode cJ15_init_4 0 = .ok (.aload_n 0, 1) := dk_42 (dk_at dksJ15_init_4_0 0 rfl rfl)
theorem dJ15_init_4_1 : decode cJ15_init_4 1 = .ok (.aload_n 1, 1) := dk_43 (dk_at dksJ15_init_4_0 1 rfl rfl)
theorem dJ15_init_4_2 : decode cJ15_init_4 2 = .ok (.aload_n 2, 1) := dk_44 (dk_at dksJ15_init_4_0 2 rfl rfl)
theorem dJ15_init_4_3 : decode cJ15_init_4 3 = .ok (.iload_n 3, 1) := dk_29 (dk_at dksJ15_init_4_0 3 rfl rfl)
theorem dJ15_init_4_4 : decode cJ15_init_4 4 = .ok (.iload 4, 2) := dk_21 4 (dk_at dksJ15_init_4_0 4 rfl rfl)
theorem dJ15_init_4_6 : decode cJ15_init_4 6 = .ok (.invokespecial 16, 3) := dk_183 0 16 (dk_at dksJ15_init_4_0 6 rfl rfl)
theorem dJ15_init_4_9 : decode cJ15_init_4 9 = .ok (.return_, 1) := dk_177 (dk_at dksJ15_init_4_0 9 rfl rfl)
theorem q145 : (Jvm.Cond.initialized "java/lang/Exception") ∈ lw_all := lw_g (lw_at lw_m1 23 rfl) rfl
theorem q608 : (Jvm.Cond.declares ({ cls := "java/lang/Exception", name := "<init>", desc := "()V" } : Jvm.MethodName)) ∈ lw_tbl := lw_at lw_m3 6 rfl
theorem q609 : (Jvm.Cond.declares ({ cls := "java/lang/Exception", name := "<init>", desc := "(Ljava/lang/String;)V" } : Jvm.MethodName)) ∈ lw_tbl := lw_at lw_m3 7 rfl
theorem q894 : (Jvm.Cond.instanceMethod ({ cls := "java/lang/Exception", name := "<init>", desc := "(Ljava/lang/String;)V" } : Jvm.MethodName)) ∈ lw_all := lw_g (lw_at lw_m4 52 rfl) rfl
theorem q895 : (Jvm.Cond.code ({ cls := "java/lang/Exception", name := "<init>", desc := "(Ljava/lang/String;)V" } : Jvm.MethodName) prog_25_method_2_code (2 : Nat) (Option.none : Option Jvm.ClassFile.FieldType)) ∈ lw_all := lw_g (lw_at lw_m4 53 rfl) rfl
theorem q896 : (Jvm.Cond.methodLink "java/lang/Exception" (7 : Nat) ({ cls := "java/lang/Throwable", name := "<init>", desc := "(Ljava/lang/String;)V" } : Jvm.MethodName)) ∈ lw_all := lw_g (lw_at lw_m4 54 rfl) rfl
theorem q1032 : (Jvm.Cond.instanceMethod ({ cls := "java/lang/Exception", name := "<init>", desc := "(Ljava/lang/Throwable;)V" } : Jvm.MethodName)) ∈ lw_all := lw_g (lw_at lw_m4 190 rfl) rfl
theorem q1033 : (Jvm.Cond.code ({ cls := "java/lang/Exception", name := "<init>", desc := "(Ljava/lang/Throwable;)V" } : Jvm.MethodName) prog_25_method_4_code (2 : Nat) (Option.none : Option Jvm.ClassFile.FieldType)) ∈ lw_all := lw_g (lw_at lw_m4 191 rfl) rfl
theorem q1034 : (Jvm.Cond.methodLink "java/lang/Exception" (13 : Nat) ({ cls := "java/lang/Throwable", name := "<init>", desc := "(Ljava/lang/Throwable;)V" } : Jvm.MethodName)) ∈ lw_all := lw_g (lw_at lw_m4 192 rfl) rfl
theorem q1088 : (Jvm.Cond.instanceMethod ({ cls := "java/lang/Exception", name := "<init>", desc := "()V" } : Jvm.MethodName)) ∈ lw_all := lw_g (lw_at lw_m5 6 rfl) rfl
theorem q1089 : (Jvm.Cond.code ({ cls := "java/lang/Exception", name := "<init>", desc := "()V" } : Jvm.MethodName) prog_25_method_1_code (1 : Nat) (Option.none : Option Jvm.ClassFile.FieldType)) ∈ lw_all := lw_g (lw_at lw_m5 7 rfl) rfl
theorem q1090 : (Jvm.Cond.methodLink "java/lang/Exception" (1 : Nat) ({ cls := "java/lang/Throwable", name := "<init>", desc := "()V" } : Jvm.MethodName)) ∈ lw_all := lw_g (lw_at lw_m5 8 rfl) rfl
theorem q1387 : (Jvm.Cond.instanceMethod ({ cls := "java/lang/Exception", name := "<init>", desc := "(Ljava/lang/String;Ljava/lang/Throwable;ZZ)V" } : Jvm.MethodName)) ∈ lw_all := lw_g (lw_at lw_m6 65 rfl) rfl
theorem q1388 : (Jvm.Cond.code ({ cls := "java/lang/Exception", name := "<init>", desc := "(Ljava/lang/String;Ljava/lang/Throwable;ZZ)V" } : Jvm.MethodName) prog_25_method_5_code (5 : Nat) (Option.none : Option Jvm.ClassFile.FieldType)) ∈ lw_all := lw_g (lw_at lw_m6 66 rfl) rfl
theorem q1389 : (Jvm.Cond.methodLink "java/lang/Exception" (16 : Nat) ({ cls := "java/lang/Throwable", name := "<init>", desc := "(Ljava/lang/String;Ljava/lang/Throwable;ZZ)V" } : Jvm.MethodName)) ∈ lw_all := lw_g (lw_at lw_m6 67 rfl) rfl

abbrev cJ16_init : ByteArray := prog_33_method_2_code
def yJ16_init : MethodName := ⟨RJ16, "<init>", "(Ljava/lang/String;)V"⟩
def dkwJ16_init_0 : List UInt8 := [42, 43, 183, 0, 7, 177]
abbrev dktJ16_init_0 : List UInt8 := dkwJ16_init_0 ++ []
theorem dksJ16_init_0 : cJ16_init.data.toList.drop 0 = dktJ16_init_0 := by decide +kernel
theorem dJ16_init_0 : decode cJ16_init 0 = .ok (.aload_n 0, 1) := dk_42 (dk_at dksJ16_init_0 0 rfl rfl)
theorem dJ16_init_1 : decode cJ16_init 1 = .ok (.aload_n 1, 1) := dk_43 (dk_at dksJ16_init_0 1 rfl rfl)
theorem dJ16_init_2 : decode cJ16_init 2 = .ok (.invokespecial 7, 3) := dk_183 0 7 (dk_at dksJ16_init_0 2 rfl rfl)
theorem dJ16_init_5 : decode cJ16_init 5 = .ok (.return_, 1) := dk_177 (dk_at dksJ16_init_0 5 rfl rfl)
abbrev cJ16_init_2 : ByteArray := prog_33_method_4_code
def yJ16_init_2 : MethodName := ⟨RJ16, "<init>", "(Ljava/lang/Throwable;)V"⟩
def dkwJ16_init_2_0 : List UInt8 := [42, 43, 183, 0, 13, 177]
abbrev dktJ16_init_2_0 : List UInt8 := dkwJ16_init_2_0 ++ []
theorem dksJ16_init_2_0 : cJ16_init_2.data.toList.drop 0 = dktJ16_init_2_0 := by decide +kernel
theorem dJ16_init_2_0 : decode cJ16_init_2 0 = .ok (.aload_n 0, 1) := dk_42 (dk_at dksJ16_init_2_0 0 rfl rfl)
theorem dJ16_init_2_1 : decode cJ16_init_2 1 = .ok (.aload_n 1, 1) := dk_43 (dk_at dksJ16_init_2_0 1 rfl rfl)
theorem dJ16_init_2_2 : decode cJ16_init_2 2 = .ok (.invokespecial 13, 3) := dk_183 0 13 (dk_at dksJ16_init_2_0 2 rfl rfl)
theorem dJ16_init_2_5 : decode cJ16_init_2 5 = .ok (.return_, 1) := dk_177 (dk_at dksJ16_init_2_0 5 rfl rfl)
abbrev cJ16_init_3 : ByteArray := prog_33_method_1_code
def yJ16_init_3 : MethodName := ⟨RJ16, "<init>", "()V"⟩
theorem dJ16_init_3_0 : decode cJ16_init_3 0 = .ok (.aload_n 0, 1) := by decide +kernel
theorem dJ16_init_3_1 : decode cJ16_init_3 1 = .ok (.invokespecial 1, 3) := by decide +kernel
theorem dJ16_init_3_4 : decode cJ16_init_3 4 = .ok (.return_, 1) := by decide +kernel
theorem q146 : (Jvm.Cond.initialized "java/lang/RuntimeException") ∈ lw_all := lw_g (lw_at lw_m1 24 rfl) rfl
theorem q606 : (Jvm.Cond.declares ({ cls := "java/lang/RuntimeException", name := "<init>", desc := "()V" } : Jvm.MethodName)) ∈ lw_tbl := lw_at lw_m3 4 rfl
theorem q607 : (Jvm.Cond.declares ({ cls := "java/lang/RuntimeException", name := "<init>", desc := "(Ljava/lang/String;)V" } : Jvm.MethodName)) ∈ lw_tbl := lw_at lw_m3 5 rfl
theorem q891 : (Jvm.Cond.instanceMethod ({ cls := "java/lang/RuntimeException", name := "<init>", desc := "(Ljava/lang/String;)V" } : Jvm.MethodName)) ∈ lw_all := lw_g (lw_at lw_m4 49 rfl) rfl
theorem q892 : (Jvm.Cond.code ({ cls := "java/lang/RuntimeException", name := "<init>", desc := "(Ljava/lang/String;)V" } : Jvm.MethodName) prog_33_method_2_code (2 : Nat) (Option.none : Option Jvm.ClassFile.FieldType)) ∈ lw_all := lw_g (lw_at lw_m4 50 rfl) rfl
theorem q893 : (Jvm.Cond.methodLink "java/lang/RuntimeException" (7 : Nat) ({ cls := "java/lang/Exception", name := "<init>", desc := "(Ljava/lang/String;)V" } : Jvm.MethodName)) ∈ lw_all := lw_g (lw_at lw_m4 51 rfl) rfl
theorem q1029 : (Jvm.Cond.instanceMethod ({ cls := "java/lang/RuntimeException", name := "<init>", desc := "(Ljava/lang/Throwable;)V" } : Jvm.MethodName)) ∈ lw_all := lw_g (lw_at lw_m4 187 rfl) rfl
theorem q1030 : (Jvm.Cond.code ({ cls := "java/lang/RuntimeException", name := "<init>", desc := "(Ljava/lang/Throwable;)V" } : Jvm.MethodName) prog_33_method_4_code (2 : Nat) (Option.none : Option Jvm.ClassFile.FieldType)) ∈ lw_all := lw_g (lw_at lw_m4 188 rfl) rfl
theorem q1031 : (Jvm.Cond.methodLink "java/lang/RuntimeException" (13 : Nat) ({ cls := "java/lang/Exception", name := "<init>", desc := "(Ljava/lang/Throwable;)V" } : Jvm.MethodName)) ∈ lw_all := lw_g (lw_at lw_m4 189 rfl) rfl
theorem q1085 : (Jvm.Cond.instanceMethod ({ cls := "java/lang/RuntimeException", name := "<init>", desc := "()V" } : Jvm.MethodName)) ∈ lw_all := lw_g (lw_at lw_m5 3 rfl) rfl
theorem q1086 : (Jvm.Cond.code ({ cls := "java/lang/RuntimeException", name := "<init>", desc := "()V" } : Jvm.MethodName) prog_33_method_1_code (1 : Nat) (Option.none : Option Jvm.ClassFile.FieldType)) ∈ lw_all := lw_g (lw_at lw_m5 4 rfl) rfl
theorem q1087 : (Jvm.Cond.methodLink "java/lang/RuntimeException" (1 : Nat) ({ cls := "java/lang/Exception", name := "<init>", desc := "()V" } : Jvm.MethodName)) ∈ lw_all := lw_g (lw_at lw_m5 5 rfl) rfl

abbrev cJ17_init : ByteArray := prog_27_method_2_code
def yJ17_init : MethodName := ⟨RJ17, "<init>", "(Ljava/lang/String;)V"⟩
def dkwJ17_init_0 : List UInt8 := [42, 43, 183, 0, 7, 177]
abbrev dktJ17_init_0 : List UInt8 := dkwJ17_init_0 ++ []
theorem dksJ17_init_0 : cJ17_init.data.toList.drop 0 = dktJ17_init_0 := by decide +kernel
theorem dJ17_init_0 : decode cJ17_init 0 = .ok (.aload_n 0, 1) := dk_42 (dk_at dksJ17_init_0 0 rfl rfl)
theorem dJ17_init_1 : decode cJ17_init 1 = .ok (.aload_n 1, 1) := dk_43 (dk_at dksJ17_init_0 1 rfl rfl)
theorem dJ17_init_2 : decode cJ17_init 2 = .ok (.invokespecial 7, 3) := dk_183 0 7 (dk_at dksJ17_init_0 2 rfl rfl)
theorem dJ17_init_5 : decode cJ17_init 5 = .ok (.return_, 1) := dk_177 (dk_at dksJ17_init_0 5 rfl rfl)
abbrev cJ17_init_2 : ByteArray := prog_27_method_1_code
def yJ17_init_2 : MethodName := ⟨RJ17, "<init>", "()V"⟩
theorem dJ17_init_2_0 : decode cJ17_init_2 0 = .ok (.aload_n 0, 1) := by decide +kernel
theorem dJ17_init_2_1 : decode cJ17_init_2 1 = .ok (.invokespecial 1, 3) := by decide +kernel
theorem dJ17_init_2_4 : decode cJ17_init_2 4 = .ok (.return_, 1) := by decide +kernel
theorem q147 : (Jvm.Cond.initialized "java/lang/IndexOutOfBoundsException") ∈ lw_all := lw_g (lw_at lw_m1 25 rfl) rfl
theorem q233 : (Jvm.Cond.selects "java/lang/IndexOutOfBoundsException" ({ cls := "java/lang/Object", name := "getClass", desc := "()Ljava/lang/Class;" } : Jvm.MethodName) ({ cls := "java/lang/Object", name := "getClass", desc := "()Ljava/lang/Class;" } : Jvm.MethodName)) ∈ lw_all := lw_g (lw_at lw_m1 111 rfl) rfl
theorem q604 : (Jvm.Cond.instantiable "java/lang/IndexOutOfBoundsException" (6 : Nat)) ∈ lw_all := lw_g (lw_at lw_m3 2 rfl) rfl
theorem q605 : (Jvm.Cond.castable "java/lang/IndexOutOfBoundsException" "java/lang/IndexOutOfBoundsException") ∈ lw_tbl := lw_at lw_m3 3 rfl
theorem q612 : (Jvm.Cond.selects "java/lang/IndexOutOfBoundsException" ({ cls := "java/lang/Throwable", name := "fillInStackTrace", desc := "(I)Ljava/lang/Throwable;" } : Jvm.MethodName) ({ cls := "java/lang/Throwable", name := "fillInStackTrace", desc := "(I)Ljava/lang/Throwable;" } : Jvm.MethodName)) ∈ lw_all := lw_g (lw_at lw_m3 10 rfl) rfl
theorem q613 : (Jvm.Cond.selects "java/lang/IndexOutOfBoundsException" ({ cls := "java/lang/Throwable", name := "fillInStackTrace", desc := "()Ljava/lang/Throwable;" } : Jvm.MethodName) ({ cls := "java/lang/Throwable", name := "fillInStackTrace", desc := "()Ljava/lang/Throwable;" } : Jvm.MethodName)) ∈ lw_all := lw_g (lw_at lw_m3 11 rfl) rfl
theorem q614 : (Jvm.Cond.lays "java/lang/IndexOutOfBoundsException" "java/lang/Throwable" "cause" "Ljava/lang/Throwable;") ∈ lw_all := lw_g (lw_at lw_m3 12 rfl) rfl
theorem q616 : (Jvm.Cond.lays "java/lang/IndexOutOfBoundsException" "java/lang/Throwable" "stackTrace" "[Ljava/lang/StackTraceElement;") ∈ lw_all := lw_g (lw_at lw_m3 14 rfl) rfl
theorem q618 : (Jvm.Cond.lays "java/lang/IndexOutOfBoundsException" "java/lang/Throwable" "suppressedExceptions" "Ljava/util/List;") ∈ lw_all := lw_g (lw_at lw_m3 16 rfl) rfl
theorem q620 : (Jvm.Cond.lays "java/lang/IndexOutOfBoundsException" "java/lang/Throwable" "detailMessage" "Ljava/lang/String;") ∈ lw_all := lw_g (lw_at lw_m3 18 rfl) rfl
theorem q622 : (Jvm.Cond.lays "java/lang/IndexOutOfBoundsException" "java/lang/Throwable" "backtrace" "Ljava/lang/Object;") ∈ lw_all := lw_g (lw_at lw_m3 20 rfl) rfl
theorem q888 : (Jvm.Cond.instanceMethod ({ cls := "java/lang/IndexOutOfBoundsException", name := "<init>", desc := "(Ljava/lang/String;)V" } : Jvm.MethodName)) ∈ lw_all := lw_g (lw_at lw_m4 46 rfl) rfl
theorem q889 : (Jvm.Cond.code ({ cls := "java/lang/IndexOutOfBoundsException", name := "<init>", desc := "(Ljava/lang/String;)V" } : Jvm.MethodName) prog_27_method_2_code (2 : Nat) (Option.none : Option Jvm.ClassFile.FieldType)) ∈ lw_all := lw_g (lw_at lw_m4 47 rfl) rfl
theorem q890 : (Jvm.Cond.methodLink "java/lang/IndexOutOfBoundsException" (7 : Nat) ({ cls := "java/lang/RuntimeException", name := "<init>", desc := "(Ljava/lang/String;)V" } : Jvm.MethodName)) ∈ lw_all := lw_g (lw_at lw_m4 48 rfl) rfl
theorem q908 : (Jvm.Cond.lays "java/lang/IndexOutOfBoundsException" "java/lang/Throwable" "depth" "I") ∈ lw_all := lw_g (lw_at lw_m4 66 rfl) rfl
theorem q911 : (Jvm.Cond.superclass "java/lang/IndexOutOfBoundsException" "java/lang/RuntimeException") ∈ lw_all := lw_g (lw_at lw_m4 69 rfl) rfl
theorem q1043 : (Jvm.Cond.selects "java/lang/IndexOutOfBoundsException" ({ cls := "java/lang/Throwable", name := "toString", desc := "()Ljava/lang/String;" } : Jvm.MethodName) ({ cls := "java/lang/Throwable", name := "toString", desc := "()Ljava/lang/String;" } : Jvm.MethodName)) ∈ lw_all := lw_g (lw_at lw_m4 201 rfl) rfl
theorem q1054 : (Jvm.Cond.selects "java/lang/IndexOutOfBoundsException" ({ cls := "java/lang/Throwable", name := "getLocalizedMessage", desc := "()Ljava/lang/String;" } : Jvm.MethodName) ({ cls := "java/lang/Throwable", name := "getLocalizedMessage", desc := "()Ljava/lang/String;" } : Jvm.MethodName)) ∈ lw_all := lw_g (lw_at lw_m4 212 rfl) rfl
theorem q1064 : (Jvm.Cond.selects "java/lang/IndexOutOfBoundsException" ({ cls := "java/lang/Throwable", name := "getMessage", desc := "()Ljava/lang/String;" } : Jvm.MethodName) ({ cls := "java/lang/Throwable", name := "getMessage", desc := "()Ljava/lang/String;" } : Jvm.MethodName)) ∈ lw_all := lw_g (lw_at lw_m4 222 rfl) rfl
theorem q2336 : (Jvm.Cond.declares ({ cls := "java/lang/IndexOutOfBoundsException", name := "<init>", desc := "()V" } : Jvm.MethodName)) ∈ lw_tbl := lw_at lw_m10 54 rfl
theorem q2337 : (Jvm.Cond.declares ({ cls := "java/lang/IndexOutOfBoundsException", name := "<init>", desc := "(Ljava/lang/String;)V" } : Jvm.MethodName)) ∈ lw_tbl := lw_at lw_m10 55 rfl
theorem q2346 : (Jvm.Cond.instanceMethod ({ cls := "java/lang/IndexOutOfBoundsException", name := "<init>", desc := "()V" } : Jvm.MethodName)) ∈ lw_all := lw_g (lw_at lw_m10 64 rfl) rfl
theorem q2347 : (Jvm.Cond.code ({ cls := "java/lang/IndexOutOfBoundsException", name := "<init>", desc := "()V" } : Jvm.MethodName) prog_27_method_1_code (1 : Nat) (Option.none : Option Jvm.ClassFile.FieldType)) ∈ lw_all := lw_g (lw_at lw_m10 65 rfl) rfl
theorem q2348 : (Jvm.Cond.methodLink "java/lang/IndexOutOfBoundsException" (1 : Nat) ({ cls := "java/lang/RuntimeException", name := "<init>", desc := "()V" } : Jvm.MethodName)) ∈ lw_all := lw_g (lw_at lw_m10 66 rfl) rfl
theorem q2979 : (Jvm.Cond.castable "java/lang/IndexOutOfBoundsException" "java/lang/Object") ∈ lw_tbl := lw_at lw_m12 217 rfl

abbrev cJ20_checkBoundsBeginEnd : ByteArray := prog_34_method_158_code
def yJ20_checkBoundsBeginEnd : MethodName := ⟨RJ20, "checkBoundsBeginEnd", "(III)V"⟩
def dkwJ20_checkBoundsBeginEnd_0 : List UInt8 := [26, 27, 28, 178, 4, 29, 184, 4, 38, 87, 177]
abbrev dktJ20_checkBoundsBeginEnd_0 : List UInt8 := dkwJ20_checkBoundsBeginEnd_0 ++ []
theorem dksJ20_checkBoundsBeginEnd_0 : cJ20_checkBoundsBeginEnd.data.toList.drop 0 = dktJ20_checkBoundsBeginEnd_0 := by decide +kernel
theorem dJ20_checkBoundsBeginEnd_0 : decode cJ20_checkBoundsBeginEnd 0 = .ok (.iload_n 0, 1) := dk_26 (dk_at dksJ20_checkBoundsBeginEnd_0 0 rfl rfl)
theorem dJ20_checkBoundsBeginEnd_1 : decode cJ20_checkBoundsBeginEnd 1 = .ok (.iload_n 1, 1) := dk_27 (dk_at dksJ20_checkBoundsBeginEnd_0 1 rfl rfl)
theorem dJ20_checkBoundsBeginEnd_2 : decode cJ20_checkBoundsBeginEnd 2 = .ok (.iload_n 2, 1) := dk_28 (dk_at dksJ20_checkBoundsBeginEnd_0 2 rfl rfl)
theorem dJ20_checkBoundsBeginEnd_3 : decode cJ20_checkBoundsBeginEnd 3 = .ok (.getstatic 1053, 3) := dk_178 4 29 (dk_at dksJ20_checkBoundsBeginEnd_0 3 rfl rfl)
theorem dJ20_checkBoundsBeginEnd_6 : decode cJ20_checkBoundsBeginEnd 6 = .ok (.invokestatic 1062, 3) := dk_184 4 38 (dk_at dksJ20_checkBoundsBeginEnd_0 6 rfl rfl)
theorem dJ20_checkBoundsBeginEnd_9 : decode cJ20_checkBoundsBeginEnd 9 = .ok (.pop, 1) := dk_87 (dk_at dksJ20_checkBoundsBeginEnd_0 9 rfl rfl)
theorem dJ20_checkBoundsBeginEnd_10 : decode cJ20_checkBoundsBeginEnd 10 = .ok (.return_, 1) := dk_177 (dk_at dksJ20_checkBoundsBeginEnd_0 10 rfl rfl)
abbrev cJ20_length : ByteArray := prog_34_method_54_code
def yJ20_length : MethodName := ⟨RJ20, "length", "()I"⟩
def dkwJ20_length_0 : List UInt8 := [42, 180, 0, 9, 190, 42, 182, 1, 79, 122, 172]
abbrev dktJ20_length_0 : List UInt8 := dkwJ20_length_0 ++ []
theorem dksJ20_length_0 : cJ20_length.data.toList.drop 0 = dktJ20_length_0 := by decide +kernel
theorem dJ20_length_0 : decode cJ20_length 0 = .ok (.aload_n 0, 1) := dk_42 (dk_at dksJ20_length_0 0 rfl rfl)
theorem dJ20_length_1 : decode cJ20_length 1 = .ok (.getfield 9, 3) := dk_180 0 9 (dk_at dksJ20_length_0 1 rfl rfl)
theorem dJ20_length_4 : decode cJ20_length 4 = .ok (.arraylength, 1) := dk_190 (dk_at dksJ20_length_0 4 rfl rfl)
theorem dJ20_length_5 : decode cJ20_length 5 = .ok (.aload_n 0, 1) := dk_42 (dk_at dksJ20_length_0 5 rfl rfl)
theorem dJ20_length_6 : decode cJ20_length 6 = .ok (.invokevirtual 335, 3) := dk_182 1 79 (dk_at dksJ20_length_0 6 rfl rfl)
theorem dJ20_length_9 : decode cJ20_length 9 = .ok (.ishr, 1) := dk_122 (dk_at dksJ20_length_0 9 rfl rfl)
theorem dJ20_length_10 : decode cJ20_length 10 = .ok (.ireturn, 1) := dk_172 (dk_at dksJ20_length_0 10 rfl rfl)
abbrev cJ20_coder : ByteArray := prog_34_method_152_code
def yJ20_coder : MethodName := ⟨RJ20, "coder", "()B"⟩
def dkwJ20_coder_0 : List UInt8 := [178, 0, 38, 153, 0, 10, 42, 180, 0, 15, 167, 0, 4, 4, 172]
abbrev dktJ20_coder_0 : List UInt8 := dkwJ20_coder_0 ++ []
theorem dksJ20_coder_0 : cJ20_coder.data.toList.drop 0 = dktJ20_coder_0 := by decide +kernel
theorem dJ20_coder_0 : decode cJ20_coder 0 = .ok (.getstatic 38, 3) := dk_178 0 38 (dk_at dksJ20_coder_0 0 rfl rfl)
theorem dJ20_coder_3 : decode cJ20_coder 3 = .ok (.ifCond .eq 10, 3) := dk_153 0 10 (dk_at dksJ20_coder_0 3 rfl rfl)
theorem dJ20_coder_6 : decode cJ20_coder 6 = .ok (.aload_n 0, 1) := dk_42 (dk_at dksJ20_coder_0 6 rfl rfl)
theorem dJ20_coder_7 : decode cJ20_coder 7 = .ok (.getfield 15, 3) := dk_180 0 15 (dk_at dksJ20_coder_0 7 rfl rfl)
theorem dJ20_coder_10 : decode cJ20_coder 10 = .ok (.goto 4, 3) := dk_167 0 4 (dk_at dksJ20_coder_0 10 rfl rfl)
theorem dJ20_coder_13 : decode cJ20_coder 13 = .ok (.iconst 1, 1) := dk_4 (dk_at dksJ20_coder_0 13 rfl rfl)
theorem dJ20_coder_14 : decode cJ20_coder 14 = .ok (.ireturn, 1) := dk_172 (dk_at dksJ20_coder_0 14 rfl rfl)
abbrev cJ20_checkBoundsOffCount : ByteArray := prog_34_method_157_code
def yJ20_checkBoundsOffCount : MethodName := ⟨RJ20, "checkBoundsOffCount", "(III)I"⟩
def dkwJ20_checkBoundsOffCount_0 : List UInt8 := [26, 27, 28, 178, 4, 29, 184, 4, 41, 172]
abbrev dktJ20_checkBoundsOffCount_0 : List UInt8 := dkwJ20_checkBoundsOffCount_0 ++ []
theorem dksJ20_checkBoundsOffCount_0 : cJ20_checkBoundsOffCount.data.toList.drop 0 = dktJ20_checkBoundsOffCount_0 := by decide +kernel
theorem dJ20_checkBoundsOffCount_0 : decode cJ20_checkBoundsOffCount 0 = .ok (.iload_n 0, 1) := dk_26 (dk_at dksJ20_checkBoundsOffCount_0 0 rfl rfl)
theorem dJ20_checkBoundsOffCount_1 : decode cJ20_checkBoundsOffCount 1 = .ok (.iload_n 1, 1) := dk_27 (dk_at dksJ20_checkBoundsOffCount_0 1 rfl rfl)
theorem dJ20_checkBoundsOffCount_2 : decode cJ20_checkBoundsOffCount 2 = .ok (.iload_n 2, 1) := dk_28 (dk_at dksJ20_checkBoundsOffCount_0 2 rfl rfl)
theorem dJ20_checkBoundsOffCount_3 : decode cJ20_checkBoundsOffCount 3 = .ok (.getstatic 1053, 3) := dk_178 4 29 (dk_at dksJ20_checkBoundsOffCount_0 3 rfl rfl)
theorem dJ20_checkBoundsOffCount_6 : decode cJ20_checkBoundsOffCount 6 = .ok (.invokestatic 1065, 3) := dk_184 4 41 (dk_at dksJ20_checkBoundsOffCount_0 6 rfl rfl)
theorem dJ20_checkBoundsOffCount_9 : decode cJ20_checkBoundsOffCount 9 = .ok (.ireturn, 1) := dk_172 (dk_at dksJ20_checkBoundsOffCount_0 9 rfl rfl)
abbrev cJ20_getBytes : ByteArray := prog_34_method_147_code
def yJ20_getBytes : MethodName := ⟨RJ20, "getBytes", "([BIB)V"⟩
def dkwJ20_getBytes_1 : List UInt8 := [184, 0, 212, 167, 0, 18, 42, 180, 0, 9, 3, 43, 28, 42, 180, 0, 9, 190, 184, 0, 106, 177]
abbrev dktJ20_getBytes_1 : List UInt8 := dkwJ20_getBytes_1 ++ []
def dkwJ20_getBytes_0 : List UInt8 := [42, 182, 1, 79, 29, 160, 0, 23, 42, 180, 0, 9, 3, 43, 28, 29, 120, 42, 180, 0, 9, 190]
abbrev dktJ20_getBytes_0 : List UInt8 := dkwJ20_getBytes_0 ++ dktJ20_getBytes_1
theorem dksJ20_getBytes_0 : cJ20_getBytes.data.toList.drop 0 = dktJ20_getBytes_0 := by decide +kernel
theorem dksJ20_getBytes_1 : cJ20_getBytes.data.toList.drop 22 = dktJ20_getBytes_1 := dk_seg dksJ20_getBytes_0 22 rfl rfl
theorem dJ20_getBytes_0 : decode cJ20_getBytes 0 = .ok (.aload_n 0, 1) := dk_42 (dk_at dksJ20_getBytes_0 0 rfl rfl)
theorem dJ20_getBytes_1 : decode cJ20_getBytes 1 = .ok (.invokevirtual 335, 3) := dk_182 1 79 (dk_at dksJ20_getBytes_0 1 rfl rfl)
theorem dJ20_getBytes_4 : decode cJ20_getBytes 4 = .ok (.iload_n 3, 1) := dk_29 (dk_at dksJ20_getBytes_0 4 rfl rfl)
theorem dJ20_getBytes_5 : decode cJ20_getBytes 5 = .ok (.if_icmp .ne 23, 3) := dk_160 0 23 (dk_at dksJ20_getBytes_0 5 rfl rfl)
theorem dJ20_getBytes_8 : decode cJ20_getBytes 8 = .ok (.aload_n 0, 1) := dk_42 (dk_at dksJ20_getBytes_0 8 rfl rfl)
theorem dJ20_getBytes_9 : decode cJ20_getBytes 9 = .ok (.getfield 9, 3) := dk_180 0 9 (dk_at dksJ20_getBytes_0 9 rfl rfl)
theorem dJ20_getBytes_12 : decode cJ20_getBytes 12 = .ok (.iconst 0, 1) := dk_3 (dk_at dksJ20_getBytes_0 12 rfl rfl)
theorem dJ20_getBytes_13 : decode cJ20_getBytes 13 = .ok (.aload_n 1, 1) := dk_43 (dk_at dksJ20_getBytes_0 13 rfl rfl)
theorem dJ20_getBytes_14 : decode cJ20_getBytes 14 = .ok (.iload_n 2, 1) := dk_28 (dk_at dksJ20_getBytes_0 14 rfl rfl)
theorem dJ20_getBytes_15 : decode cJ20_getBytes 15 = .ok (.iload_n 3, 1) := dk_29 (dk_at dksJ20_getBytes_0 15 rfl rfl)
theorem dJ20_getBytes_16 : decode cJ20_getBytes 16 = .ok (.ishl, 1) := dk_120 (dk_at dksJ20_getBytes_0 16 rfl rfl)
theorem dJ20_getBytes_17 : decode cJ20_getBytes 17 = .ok (.aload_n 0, 1) := dk_42 (dk_at dksJ20_getBytes_0 17 rfl rfl)
theorem dJ20_getBytes_18 : decode cJ20_getBytes 18 = .ok (.getfield 9, 3) := dk_180 0 9 (dk_at dksJ20_getBytes_0 18 rfl rfl)
theorem dJ20_getBytes_21 : decode cJ20_getBytes 21 = .ok (.arraylength, 1) := dk_190 (dk_at dksJ20_getBytes_0 21 rfl rfl)
theorem dJ20_getBytes_22 : decode cJ20_getBytes 22 = .ok (.invokestatic 212, 3) := dk_184 0 212 (dk_at dksJ20_getBytes_1 0 rfl rfl)
theorem dJ20_getBytes_25 : decode cJ20_getBytes 25 = .ok (.goto 18, 3) := dk_167 0 18 (dk_at dksJ20_getBytes_1 3 rfl rfl)
theorem dJ20_getBytes_28 : decode cJ20_getBytes 28 = .ok (.aload_n 0, 1) := dk_42 (dk_at dksJ20_getBytes_1 6 rfl rfl)
theorem dJ20_getBytes_29 : decode cJ20_getBytes 29 = .ok (.getfield 9, 3) := dk_180 0 9 (dk_at dksJ20_getBytes_1 7 rfl rfl)
theorem dJ20_getBytes_32 : decode cJ20_getBytes 32 = .ok (.iconst 0, 1) := dk_3 (dk_at dksJ20_getBytes_1 10 rfl rfl)
theorem dJ20_getBytes_33 : decode cJ20_getBytes 33 = .ok (.aload_n 1, 1) := dk_43 (dk_at dksJ20_getBytes_1 11 rfl rfl)
theorem dJ20_getBytes_34 : decode cJ20_getBytes 34 = .ok (.iload_n 2, 1) := dk_28 (dk_at dksJ20_getBytes_1 12 rfl rfl)
theorem dJ20_getBytes_35 : decode cJ20_getBytes 35 = .ok (.aload_n 0, 1) := dk_42 (dk_at dksJ20_getBytes_1 13 rfl rfl)
theorem dJ20_getBytes_36 : decode cJ20_getBytes 36 = .ok (.getfield 9, 3) := dk_180 0 9 (dk_at dksJ20_getBytes_1 14 rfl rfl)
theorem dJ20_getBytes_39 : decode cJ20_getBytes 39 = .ok (.arraylength, 1) := dk_190 (dk_at dksJ20_getBytes_1 17 rfl rfl)
theorem dJ20_getBytes_40 : decode cJ20_getBytes 40 = .ok (.invokestatic 106, 3) := dk_184 0 106 (dk_at dksJ20_getBytes_1 18 rfl rfl)
theorem dJ20_getBytes_43 : decode cJ20_getBytes 43 = .ok (.return_, 1) := dk_177 (dk_at dksJ20_getBytes_1 21 rfl rfl)
abbrev cJ20_init : ByteArray := prog_34_method_53_code
def yJ20_init : MethodName := ⟨RJ20, "<init>", "(Ljava/lang/StringBuilder;)V"⟩
def dkwJ20_init_0 : List UInt8 := [42, 43, 1, 183, 1, 233, 177]
abbrev dktJ20_init_0 : List UInt8 := dkwJ20_init_0 ++ []
theorem dksJ20_init_0 : cJ20_init.data.toList.drop 0 = dktJ20_init_0 := by decide +kernel
theorem dJ20_init_0 : decode cJ20_init 0 = .ok (.aload_n 0, 1) := dk_42 (dk_at dksJ20_init_0 0 rfl rfl)
theorem dJ20_init_1 : decode cJ20_init 1 = .ok (.aload_n 1, 1) := dk_43 (dk_at dksJ20_init_0 1 rfl rfl)
theorem dJ20_init_2 : decode cJ20_init 2 = .ok (.aconst_null, 1) := dk_1 (dk_at dksJ20_init_0 2 rfl rfl)
theorem dJ20_init_3 : decode cJ20_init 3 = .ok (.invokespecial 489, 3) := dk_183 1 233 (dk_at dksJ20_init_0 3 rfl rfl)
theorem dJ20_init_6 : decode cJ20_init 6 = .ok (.return_, 1) := dk_177 (dk_at dksJ20_init_0 6 rfl rfl)
abbrev cJ20_init_2 : ByteArray := prog_34_method_150_code
def yJ20_init_2 : MethodName := ⟨RJ20, "<init>", "(Ljava/lang/AbstractStringBuilder;Ljava/lang/Void;)V"⟩
def dkwJ20_init_2_4 : List UInt8 := [181, 0, 9, 177]
abbrev dktJ20_init_2_4 : List UInt8 := dkwJ20_init_2_4 ++ []
def dkwJ20_init_2_3 : List UInt8 := [184, 0, 47, 181, 0, 15, 177, 42, 4, 181, 0, 15, 42, 45, 3, 21, 4, 4, 120, 184, 0, 54]
abbrev dktJ20_init_2_3 : List UInt8 := dkwJ20_init_2_3 ++ dktJ20_init_2_4
def dkwJ20_init_2_2 : List UInt8 := [180, 4, 24, 153, 0, 28, 42, 45, 3, 21, 4, 184, 4, 27, 181, 0, 9, 42, 42, 180, 0, 9, 21, 4]
abbrev dktJ20_init_2_2 : List UInt8 := dkwJ20_init_2_2 ++ dktJ20_init_2_3
def dkwJ20_init_2_1 : List UInt8 := [181, 0, 15, 42, 45, 3, 21, 4, 184, 0, 54, 181, 0, 9, 167, 0, 59, 178, 0, 38, 153, 0, 35, 43]
abbrev dktJ20_init_2_1 : List UInt8 := dkwJ20_init_2_1 ++ dktJ20_init_2_2
def dkwJ20_init_2_0 : List UInt8 := [42, 183, 0, 1, 43, 182, 2, 40, 78, 43, 182, 2, 37, 54, 4, 43, 182, 4, 23, 153, 0, 22, 42, 3]
abbrev dktJ20_init_2_0 : List UInt8 := dkwJ20_init_2_0 ++ dktJ20_init_2_1
theorem dksJ20_init_2_0 : cJ20_init_2.data.toList.drop 0 = dktJ20_init_2_0 := by decide +kernel
theorem dksJ20_init_2_1 : cJ20_init_2.data.toList.drop 24 = dktJ20_init_2_1 := dk_seg dksJ20_init_2_0 24 rfl rfl
theorem dksJ20_init_2_2 : cJ20_init_2.data.toList.drop 48 = dktJ20_init_2_2 := dk_seg dksJ20_init_2_1 24 rfl rfl
theorem dksJ20_init_2_3 : cJ20_init_2.data.toList.drop 72 = dktJ20_init_2_3 := dk_seg dksJ20_init_2_2 24 rfl rfl
theorem dksJ20_init_2_4 : cJ20_init_2.data.toList.drop 94 = dktJ20_init_2_4 := dk_seg dksJ20_init_2_3 22 rfl rfl
theorem dJ20_init_2_0 : decode cJ20_init_2 0 = .ok (.aload_n 0, 1) := dk_42 (dk_at dksJ20_init_2_0 0 rfl rfl)
theorem dJ20_init_2_1 : decode cJ20_init_2 1 = .ok (.invokespecial 1, 3) := dk_183 0 1 (dk_at dksJ20_init_2_0 1 rfl rfl)
theorem dJ20_init_2_4 : decode cJ20_init_2 4 = .ok (.aload_n 1, 1) := dk_43 (dk_at dksJ20_init_2_0 4 rfl rfl)
theorem dJ20_init_2_5 : decode cJ20_init_2 5 = .ok (.invokevirtual 552, 3) := dk_182 2 40 (dk_at dksJ20_init_2_0 5 rfl rfl)
theorem dJ20_init_2_8 : decode cJ20_init_2 8 = .ok (.astore_n 3, 1) := dk_78 (dk_at dksJ20_init_2_0 8 rfl rfl)
theorem dJ20_init_2_9 : decode cJ20_init_2 9 = .ok (.aload_n 1, 1) := dk_43 (dk_at dksJ20_init_2_0 9 rfl rfl)
theorem dJ20_init_2_10 : decode cJ20_init_2 10 = .ok (.invokevirtual 549, 3) := dk_182 2 37 (dk_at dksJ20_init_2_0 10 rfl rfl)
theorem dJ20_init_2_13 : decode cJ20_init_2 13 = .ok (.istore 4, 2) := dk_54 4 (dk_at dksJ20_init_2_0 13 rfl rfl)
theorem dJ20_init_2_15 : decode cJ20_init_2 15 = .ok (.aload_n 1, 1) := dk_43 (dk_at dksJ20_init_2_0 15 rfl rfl)
theorem dJ20_init_2_16 : decode cJ20_init_2 16 = .ok (.invokevirtual 1047, 3) := dk_182 4 23 (dk_at dksJ20_init_2_0 16 rfl rfl)
theorem dJ20_init_2_19 : decode cJ20_init_2 19 = .ok (.ifCond .eq 22, 3) := dk_153 0 22 (dk_at dksJ20_init_2_0 19 rfl rfl)
theorem dJ20_init_2_22 : decode cJ20_init_2 22 = .ok (.aload_n 0, 1) := dk_42 (dk_at dksJ20_init_2_0 22 rfl rfl)
theorem dJ20_init_2_23 : decode cJ20_init_2 23 = .ok (.iconst 0, 1) := dk_3 (dk_at dksJ20_init_2_0 23 rfl rfl)
theorem dJ20_init_2_24 : decode cJ20_init_2 24 = .ok (.putfield 15, 3) := dk_181 0 15 (dk_at dksJ20_init_2_1 0 rfl rfl)
theorem dJ20_init_2_27 : decode cJ20_init_2 27 = .ok (.aload_n 0, 1) := dk_42 (dk_at dksJ20_init_2_1 3 rfl rfl)
theorem dJ20_init_2_28 : decode cJ20_init_2 28 = .ok (.aload_n 3, 1) := dk_45 (dk_at dksJ20_init_2_1 4 rfl rfl)
theorem dJ20_init_2_29 : decode cJ20_init_2 29 = .ok (.iconst 0, 1) := dk_3 (dk_at dksJ20_init_2_1 5 rfl rfl)
theorem dJ20_init_2_30 : decode cJ20_init_2 30 = .ok (.iload 4, 2) := dk_21 4 (dk_at dksJ20_init_2_1 6 rfl rfl)
theorem dJ20_init_2_32 : decode cJ20_init_2 32 = .ok (.invokestatic 54, 3) := dk_184 0 54 (dk_at dksJ20_init_2_1 8 rfl rfl)
theorem dJ20_init_2_35 : decode cJ20_init_2 35 = .ok (.putfield 9, 3) := dk_181 0 9 (dk_at dksJ20_init_2_1 11 rfl rfl)
theorem dJ20_init_2_38 : decode cJ20_init_2 38 = .ok (.goto 59, 3) := dk_167 0 59 (dk_at dksJ20_init_2_1 14 rfl rfl)
theorem dJ20_init_2_41 : decode cJ20_init_2 41 = .ok (.getstatic 38, 3) := dk_178 0 38 (dk_at dksJ20_init_2_1 17 rfl rfl)
theorem dJ20_init_2_44 : decode cJ20_init_2 44 = .ok (.ifCond .eq 35, 3) := dk_153 0 35 (dk_at dksJ20_init_2_1 20 rfl rfl)
theorem dJ20_init_2_47 : decode cJ20_init_2 47 = .ok (.aload_n 1, 1) := dk_43 (dk_at dksJ20_init_2_1 23 rfl rfl)
theorem dJ20_init_2_48 : decode cJ20_init_2 48 = .ok (.getfield 1048, 3) := dk_180 4 24 (dk_at dksJ20_init_2_2 0 rfl rfl)
theorem dJ20_init_2_51 : decode cJ20_init_2 51 = .ok (.ifCond .eq 28, 3) := dk_153 0 28 (dk_at dksJ20_init_2_2 3 rfl rfl)
theorem dJ20_init_2_54 : decode cJ20_init_2 54 = .ok (.aload_n 0, 1) := dk_42 (dk_at dksJ20_init_2_2 6 rfl rfl)
theorem dJ20_init_2_55 : decode cJ20_init_2 55 = .ok (.aload_n 3, 1) := dk_45 (dk_at dksJ20_init_2_2 7 rfl rfl)
theorem dJ20_init_2_56 : decode cJ20_init_2 56 = .ok (.iconst 0, 1) := dk_3 (dk_at dksJ20_init_2_2 8 rfl rfl)
theorem dJ20_init_2_57 : decode cJ20_init_2 57 = .ok (.iload 4, 2) := dk_21 4 (dk_at dksJ20_init_2_2 9 rfl rfl)
theorem dJ20_init_2_59 : decode cJ20_init_2 59 = .ok (.invokestatic 1051, 3) := dk_184 4 27 (dk_at dksJ20_init_2_2 11 rfl rfl)
theorem dJ20_init_2_62 : decode cJ20_init_2 62 = .ok (.putfield 9, 3) := dk_181 0 9 (dk_at dksJ20_init_2_2 14 rfl rfl)
theorem dJ20_init_2_65 : decode cJ20_init_2 65 = .ok (.aload_n 0, 1) := dk_42 (dk_at dksJ20_init_2_2 17 rfl rfl)
theorem dJ20_init_2_66 : decode cJ20_init_2 66 = .ok (.aload_n 0, 1) := dk_42 (dk_at dksJ20_init_2_2 18 rfl rfl)
theorem dJ20_init_2_67 : decode cJ20_init_2 67 = .ok (.getfield 9, 3) := dk_180 0 9 (dk_at dksJ20_init_2_2 19 rfl rfl)
theorem dJ20_init_2_70 : decode cJ20_init_2 70 = .ok (.iload 4, 2) := dk_21 4 (dk_at dksJ20_init_2_2 22 rfl rfl)
theorem dJ20_init_2_72 : decode cJ20_init_2 72 = .ok (.invokestatic 47, 3) := dk_184 0 47 (dk_at dksJ20_init_2_3 0 rfl rfl)
theorem dJ20_init_2_75 : decode cJ20_init_2 75 = .ok (.putfield 15, 3) := dk_181 0 15 (dk_at dksJ20_init_2_3 3 rfl rfl)
theorem dJ20_init_2_78 : decode cJ20_init_2 78 = .ok (.return_, 1) := dk_177 (dk_at dksJ20_init_2_3 6 rfl rfl)
theorem dJ20_init_2_79 : decode cJ20_init_2 79 = .ok (.aload_n 0, 1) := dk_42 (dk_at dksJ20_init_2_3 7 rfl rfl)
theorem dJ20_init_2_80 : decode cJ20_init_2 80 = .ok (.iconst 1, 1) := dk_4 (dk_at dksJ20_init_2_3 8 rfl rfl)
theorem dJ20_init_2_81 : decode cJ20_init_2 81 = .ok (.putfield 15, 3) := dk_181 0 15 (dk_at dksJ20_init_2_3 9 rfl rfl)
theorem dJ20_init_2_84 : decode cJ20_init_2 84 = .ok (.aload_n 0, 1) := dk_42 (dk_at dksJ20_init_2_3 12 rfl rfl)
theorem dJ20_init_2_85 : decode cJ20_init_2 85 = .ok (.aload_n 3, 1) := dk_45 (dk_at dksJ20_init_2_3 13 rfl rfl)
theorem dJ20_init_2_86 : decode cJ20_init_2 86 = .ok (.iconst 0, 1) := dk_3 (dk_at dksJ20_init_2_3 14 rfl rfl)
theorem dJ20_init_2_87 : decode cJ20_init_2 87 = .ok (.iload 4, 2) := dk_21 4 (dk_at dksJ20_init_2_3 15 rfl rfl)
theorem dJ20_init_2_89 : decode cJ20_init_2 89 = .ok (.iconst 1, 1) := dk_4 (dk_at dksJ20_init_2_3 17 rfl rfl)
theorem dJ20_init_2_90 : decode cJ20_init_2 90 = .ok (.ishl, 1) := dk_120 (dk_at dksJ20_init_2_3 18 rfl rfl)
theorem dJ20_init_2_91 : decode cJ20_init_2 91 = .ok (.invokestatic 54, 3) := dk_184 0 54 (dk_at dksJ20_init_2_3 19 rfl rfl)
theorem dJ20_init_2_94 : decode cJ20_init_2 94 = .ok (.putfield 9, 3) := dk_181 0 9 (dk_at dksJ20_init_2_4 0 rfl rfl)
theorem dJ20_init_2_97 : decode cJ20_init_2 97 = .ok (.return_, 1) := dk_177 (dk_at dksJ20_init_2_4 3 rfl rfl)
abbrev cJ20_charAt : ByteArray := prog_34_method_56_code
def yJ20_charAt : MethodName := ⟨RJ20, "charAt", "(I)C"⟩
def dkwJ20_charAt_1 : List UInt8 := [172]
abbrev dktJ20_charAt_1 : List UInt8 := dkwJ20_charAt_1 ++ []
def dkwJ20_charAt_0 : List UInt8 := [42, 182, 1, 236, 153, 0, 12, 42, 180, 0, 9, 27, 184, 1, 239, 172, 42, 180, 0, 9, 27, 184, 1, 242]
abbrev dktJ20_charAt_0 : List UInt8 := dkwJ20_charAt_0 ++ dktJ20_charAt_1
theorem dksJ20_charAt_0 : cJ20_charAt.data.toList.drop 0 = dktJ20_charAt_0 := by decide +kernel
theorem dksJ20_charAt_1 : cJ20_charAt.data.toList.drop 24 = dktJ20_charAt_1 := dk_seg dksJ20_charAt_0 24 rfl rfl
theorem dJ20_charAt_0 : decode cJ20_charAt 0 = .ok (.aload_n 0, 1) := dk_42 (dk_at dksJ20_charAt_0 0 rfl rfl)
theorem dJ20_charAt_1 : decode cJ20_charAt 1 = .ok (.invokevirtual 492, 3) := dk_182 1 236 (dk_at dksJ20_charAt_0 1 rfl rfl)
theorem dJ20_charAt_4 : decode cJ20_charAt 4 = .ok (.ifCond .eq 12, 3) := dk_153 0 12 (dk_at dksJ20_charAt_0 4 rfl rfl)
theorem dJ20_charAt_7 : decode cJ20_charAt 7 = .ok (.aload_n 0, 1) := dk_42 (dk_at dksJ20_charAt_0 7 rfl rfl)
theorem dJ20_charAt_8 : decode cJ20_charAt 8 = .ok (.getfield 9, 3) := dk_180 0 9 (dk_at dksJ20_charAt_0 8 rfl rfl)
theorem dJ20_charAt_11 : decode cJ20_charAt 11 = .ok (.iload_n 1, 1) := dk_27 (dk_at dksJ20_charAt_0 11 rfl rfl)
theorem dJ20_charAt_12 : decode cJ20_charAt 12 = .ok (.invokestatic 495, 3) := dk_184 1 239 (dk_at dksJ20_charAt_0 12 rfl rfl)
theorem dJ20_charAt_15 : decode cJ20_charAt 15 = .ok (.ireturn, 1) := dk_172 (dk_at dksJ20_charAt_0 15 rfl rfl)
theorem dJ20_charAt_16 : decode cJ20_charAt 16 = .ok (.aload_n 0, 1) := dk_42 (dk_at dksJ20_charAt_0 16 rfl rfl)
theorem dJ20_charAt_17 : decode cJ20_charAt 17 = .ok (.getfield 9, 3) := dk_180 0 9 (dk_at dksJ20_charAt_0 17 rfl rfl)
theorem dJ20_charAt_20 : decode cJ20_charAt 20 = .ok (.iload_n 1, 1) := dk_27 (dk_at dksJ20_charAt_0 20 rfl rfl)
theorem dJ20_charAt_21 : decode cJ20_charAt 21 = .ok (.invokestatic 498, 3) := dk_184 1 242 (dk_at dksJ20_charAt_0 21 rfl rfl)
theorem dJ20_charAt_24 : decode cJ20_charAt 24 = .ok (.ireturn, 1) := dk_172 (dk_at dksJ20_charAt_1 0 rfl rfl)
abbrev cJ20_isLatin1 : ByteArray := prog_34_method_154_code
def yJ20_isLatin1 : MethodName := ⟨RJ20, "isLatin1", "()Z"⟩
def dkwJ20_isLatin1_0 : List UInt8 := [178, 0, 38, 153, 0, 14, 42, 180, 0, 15, 154, 0, 7, 4, 167, 0, 4, 3, 172]
abbrev dktJ20_isLatin1_0 : List UInt8 := dkwJ20_isLatin1_0 ++ []
theorem dksJ20_isLatin1_0 : cJ20_isLatin1.data.toList.drop 0 = dktJ20_isLatin1_0 := by decide +kernel
theorem dJ20_isLatin1_0 : decode cJ20_isLatin1 0 = .ok (.getstatic 38, 3) := dk_178 0 38 (dk_at dksJ20_isLatin1_0 0 rfl rfl)
theorem dJ20_isLatin1_3 : decode cJ20_isLatin1 3 = .ok (.ifCond .eq 14, 3) := dk_153 0 14 (dk_at dksJ20_isLatin1_0 3 rfl rfl)
theorem dJ20_isLatin1_6 : decode cJ20_isLatin1 6 = .ok (.aload_n 0, 1) := dk_42 (dk_at dksJ20_isLatin1_0 6 rfl rfl)
theorem dJ20_isLatin1_7 : decode cJ20_isLatin1 7 = .ok (.getfield 15, 3) := dk_180 0 15 (dk_at dksJ20_isLatin1_0 7 rfl rfl)
theorem dJ20_isLatin1_10 : decode cJ20_isLatin1 10 = .ok (.ifCond .ne 7, 3) := dk_154 0 7 (dk_at dksJ20_isLatin1_0 10 rfl rfl)
theorem dJ20_isLatin1_13 : decode cJ20_isLatin1 13 = .ok (.iconst 1, 1) := dk_4 (dk_at dksJ20_isLatin1_0 13 rfl rfl)
theorem dJ20_isLatin1_14 : decode cJ20_isLatin1 14 = .ok (.goto 4, 3) := dk_167 0 4 (dk_at dksJ20_isLatin1_0 14 rfl rfl)
theorem dJ20_isLatin1_17 : decode cJ20_isLatin1 17 = .ok (.iconst 0, 1) := dk_3 (dk_at dksJ20_isLatin1_0 17 rfl rfl)
theorem dJ20_isLatin1_18 : decode cJ20_isLatin1 18 = .ok (.ireturn, 1) := dk_172 (dk_at dksJ20_isLatin1_0 18 rfl rfl)
abbrev cJ20_checkIndex : ByteArray := prog_34_method_155_code
def yJ20_checkIndex : MethodName := ⟨RJ20, "checkIndex", "(II)V"⟩
def dkwJ20_checkIndex_0 : List UInt8 := [26, 27, 178, 4, 29, 184, 4, 35, 87, 177]
abbrev dktJ20_checkIndex_0 : List UInt8 := dkwJ20_checkIndex_0 ++ []
theorem dksJ20_checkIndex_0 : cJ20_checkIndex.data.toList.drop 0 = dktJ20_checkIndex_0 := by decide +kernel
theorem dJ20_checkIndex_0 : decode cJ20_checkIndex 0 = .ok (.iload_n 0, 1) := dk_26 (dk_at dksJ20_checkIndex_0 0 rfl rfl)
theorem dJ20_checkIndex_1 : decode cJ20_checkIndex 1 = .ok (.iload_n 1, 1) := dk_27 (dk_at dksJ20_checkIndex_0 1 rfl rfl)
theorem dJ20_checkIndex_2 : decode cJ20_checkIndex 2 = .ok (.getstatic 1053, 3) := dk_178 4 29 (dk_at dksJ20_checkIndex_0 2 rfl rfl)
theorem dJ20_checkIndex_5 : decode cJ20_checkIndex 5 = .ok (.invokestatic 1059, 3) := dk_184 4 35 (dk_at dksJ20_checkIndex_0 5 rfl rfl)
theorem dJ20_checkIndex_8 : decode cJ20_checkIndex 8 = .ok (.pop, 1) := dk_87 (dk_at dksJ20_checkIndex_0 8 rfl rfl)
theorem dJ20_checkIndex_9 : decode cJ20_checkIndex 9 = .ok (.return_, 1) := dk_177 (dk_at dksJ20_checkIndex_0 9 rfl rfl)
theorem q150 : (Jvm.Cond.initialized "java/lang/String") ∈ lw_all := lw_g (lw_at lw_m1 28 rfl) rfl
theorem q234 : (Jvm.Cond.selects "java/lang/String" ({ cls := "java/lang/Object", name := "getClass", desc := "()Ljava/lang/Class;" } : Jvm.MethodName) ({ cls := "java/lang/Object", name := "getClass", desc := "()Ljava/lang/Class;" } : Jvm.MethodName)) ∈ lw_all := lw_g (lw_at lw_m1 112 rfl) rfl
theorem q661 : (Jvm.Cond.laysStatic "java/lang/String" "COMPACT_STRINGS" "Z") ∈ lw_tbl := lw_at lw_m3 59 rfl
theorem q671 : (Jvm.Cond.fieldLink "java/lang/String" (1048 : Nat) "java/lang/AbstractStringBuilder" "maybeLatin1" "Z") ∈ lw_all := lw_g (lw_at lw_m3 69 rfl) rfl
theorem q742 : (Jvm.Cond.static ({ cls := "java/lang/String", name := "checkBoundsBeginEnd", desc := "(III)V" } : Jvm.MethodName)) ∈ lw_all := lw_g (lw_at lw_m3 140 rfl) rfl
theorem q743 : (Jvm.Cond.code ({ cls := "java/lang/String", name := "checkBoundsBeginEnd", desc := "(III)V" } : Jvm.MethodName) prog_34_method_158_code (3 : Nat) (Option.none : Option Jvm.ClassFile.FieldType)) ∈ lw_all := lw_g (lw_at lw_m3 141 rfl) rfl
theorem q744 : (Jvm.Cond.fieldLink "java/lang/String" (1053 : Nat) "jdk/internal/util/Preconditions" "SIOOBE_FORMATTER" "Ljava/util/function/BiFunction;") ∈ lw_all := lw_g (lw_at lw_m3 142 rfl) rfl
theorem q746 : (Jvm.Cond.methodLink "java/lang/String" (1062 : Nat) ({ cls := "jdk/internal/util/Preconditions", name := "checkFromToIndex", desc := "(IIILjava/util/function/BiFunction;)I" } : Jvm.MethodName)) ∈ lw_all := lw_g (lw_at lw_m3 144 rfl) rfl
theorem q759 : (Jvm.Cond.instanceMethod ({ cls := "java/lang/String", name := "length", desc := "()I" } : Jvm.MethodName)) ∈ lw_all := lw_g (lw_at lw_m3 157 rfl) rfl
theorem q760 : (Jvm.Cond.selects "java/lang/String" ({ cls := "java/lang/String", name := "length", desc := "()I" } : Jvm.MethodName) ({ cls := "java/lang/String", name := "length", desc := "()I" } : Jvm.MethodName)) ∈ lw_all := lw_g (lw_at lw_m3 158 rfl) rfl
theorem q761 : (Jvm.Cond.code ({ cls := "java/lang/String", name := "length", desc := "()I" } : Jvm.MethodName) prog_34_method_54_code (1 : Nat) (Option.some Jvm.ClassFile.FieldType.int)) ∈ lw_all := lw_g (lw_at lw_m3 159 rfl) rfl
theorem q762 : (Jvm.Cond.methodLink "java/lang/String" (335 : Nat) ({ cls := "java/lang/String", name := "coder", desc := "()B" } : Jvm.MethodName)) ∈ lw_all := lw_g (lw_at lw_m3 160 rfl) rfl
theorem q763 : (Jvm.Cond.instanceMethod ({ cls := "java/lang/String", name := "coder", desc := "()B" } : Jvm.MethodName)) ∈ lw_all := lw_g (lw_at lw_m3 161 rfl) rfl
theorem q764 : (Jvm.Cond.selects "java/lang/String" ({ cls := "java/lang/String", name := "coder", desc := "()B" } : Jvm.MethodName) ({ cls := "java/lang/String", name := "coder", desc := "()B" } : Jvm.MethodName)) ∈ lw_all := lw_g (lw_at lw_m3 162 rfl) rfl
theorem q765 : (Jvm.Cond.code ({ cls := "java/lang/String", name := "coder", desc := "()B" } : Jvm.MethodName) prog_34_method_152_code (1 : Nat) (Option.some Jvm.ClassFile.FieldType.byte)) ∈ lw_all := lw_g (lw_at lw_m3 163 rfl) rfl
theorem q766 : (Jvm.Cond.fieldLink "java/lang/String" (38 : Nat) "java/lang/String" "COMPACT_STRINGS" "Z") ∈ lw_all := lw_g (lw_at lw_m3 164 rfl) rfl
theorem q790 : (Jvm.Cond.static ({ cls := "java/lang/String", name := "checkBoundsOffCount", desc := "(III)I" } : Jvm.MethodName)) ∈ lw_all := lw_g (lw_at lw_m3 188 rfl) rfl
theorem q791 : (Jvm.Cond.code ({ cls := "java/lang/String", name := "checkBoundsOffCount", desc := "(III)I" } : Jvm.MethodName) prog_34_method_157_code (3 : Nat) (Option.some Jvm.ClassFile.FieldType.int)) ∈ lw_all := lw_g (lw_at lw_m3 189 rfl) rfl
theorem q792 : (Jvm.Cond.methodLink "java/lang/String" (1065 : Nat) ({ cls := "jdk/internal/util/Preconditions", name := "checkFromIndexSize", desc := "(IIILjava/util/function/BiFunction;)I" } : Jvm.MethodName)) ∈ lw_all := lw_g (lw_at lw_m3 190 rfl) rfl
theorem q796 : (Jvm.Cond.instanceMethod ({ cls := "java/lang/String", name := "getBytes", desc := "([BIB)V" } : Jvm.MethodName)) ∈ lw_all := lw_g (lw_at lw_m3 194 rfl) rfl
theorem q797 : (Jvm.Cond.selects "java/lang/String" ({ cls := "java/lang/String", name := "getBytes", desc := "([BIB)V" } : Jvm.MethodName) ({ cls := "java/lang/String", name := "getBytes", desc := "([BIB)V" } : Jvm.MethodName)) ∈ lw_all := lw_g (lw_at lw_m3 195 rfl) rfl
theorem q798 : (Jvm.Cond.code ({ cls := "java/lang/String", name := "getBytes", desc := "([BIB)V" } : Jvm.MethodName) prog_34_method_147_code (4 : Nat) (Option.none : Option Jvm.ClassFile.FieldType)) ∈ lw_all := lw_g (lw_at lw_m3 196 rfl) rfl
theorem q799 : (Jvm.Cond.methodLink "java/lang/String" (212 : Nat) ({ cls := "java/lang/System", name := "arraycopy", desc := "(Ljava/lang/Object;ILjava/lang/Object;II)V" } : Jvm.MethodName)) ∈ lw_all := lw_g (lw_at lw_m3 197 rfl) rfl
theorem q800 : (Jvm.Cond.methodLink "java/lang/String" (106 : Nat) ({ cls := "java/lang/StringLatin1", name := "inflate", desc := "([BI[BII)V" } : Jvm.MethodName)) ∈ lw_all := lw_g (lw_at lw_m3 198 rfl) rfl
theorem q832 : (Jvm.Cond.instantiable "java/lang/String" (4 : Nat)) ∈ lw_all := lw_g (lw_at lw_m3 230 rfl) rfl
theorem q834 : (Jvm.Cond.instanceMethod ({ cls := "java/lang/String", name := "<init>", desc := "(Ljava/lang/StringBuilder;)V" } : Jvm.MethodName)) ∈ lw_all := lw_g (lw_at lw_m3 232 rfl) rfl
theorem q835 : (Jvm.Cond.code ({ cls := "java/lang/String", name := "<init>", desc := "(Ljava/lang/StringBuilder;)V" } : Jvm.MethodName) prog_34_method_53_code (2 : Nat) (Option.none : Option Jvm.ClassFile.FieldType)) ∈ lw_all := lw_g (lw_at lw_m3 233 rfl) rfl
theorem q836 : (Jvm.Cond.methodLink "java/lang/String" (489 : Nat) ({ cls := "java/lang/String", name := "<init>", desc := "(Ljava/lang/AbstractStringBuilder;Ljava/lang/Void;)V" } : Jvm.MethodName)) ∈ lw_all := lw_g (lw_at lw_m3 234 rfl) rfl
theorem q837 : (Jvm.Cond.instanceMethod ({ cls := "java/lang/String", name := "<init>", desc := "(Ljava/lang/AbstractStringBuilder;Ljava/lang/Void;)V" } : Jvm.MethodName)) ∈ lw_all := lw_g (lw_at lw_m3 235 rfl) rfl
theorem q838 : (Jvm.Cond.code ({ cls := "java/lang/String", name := "<init>", desc := "(Ljava/lang/AbstractStringBuilder;Ljava/lang/Void;)V" } : Jvm.MethodName) prog_34_method_150_code (5 : Nat) (Option.none : Option Jvm.ClassFile.FieldType)) ∈ lw_all := lw_g (lw_at lw_m3 236 rfl) rfl
theorem q839 : (Jvm.Cond.methodLink "java/lang/String" (1 : Nat) ({ cls := "java/lang/Object", name := "<init>", desc := "()V" } : Jvm.MethodName)) ∈ lw_all := lw_g (lw_at lw_m3 237 rfl) rfl
theorem q840 : (Jvm.Cond.methodLink "java/lang/String" (552 : Nat) ({ cls := "java/lang/AbstractStringBuilder", name := "getValue", desc := "()[B" } : Jvm.MethodName)) ∈ lw_all := lw_g (lw_at lw_m3 238 rfl) rfl
theorem q845 : (Jvm.Cond.methodLink "java/lang/String" (549 : Nat) ({ cls := "java/lang/AbstractStringBuilder", name := "length", desc := "()I" } : Jvm.MethodName)) ∈ lw_all := lw_g (lw_at lw_m4 3 rfl) rfl
theorem q853 : (Jvm.Cond.methodLink "java/lang/String" (1047 : Nat) ({ cls := "java/lang/AbstractStringBuilder", name := "isLatin1", desc := "()Z" } : Jvm.MethodName)) ∈ lw_all := lw_g (lw_at lw_m4 11 rfl) rfl
theorem q854 : (Jvm.Cond.methodLink "java/lang/String" (54 : Nat) ({ cls := "java/util/Arrays", name := "copyOfRange", desc := "([BII)[B" } : Jvm.MethodName)) ∈ lw_all := lw_g (lw_at lw_m4 12 rfl) rfl
theorem q863 : (Jvm.Cond.methodLink "java/lang/String" (1051 : Nat) ({ cls := "java/lang/StringUTF16", name := "compress", desc := "([BII)[B" } : Jvm.MethodName)) ∈ lw_all := lw_g (lw_at lw_m4 21 rfl) rfl
theorem q873 : (Jvm.Cond.methodLink "java/lang/String" (47 : Nat) ({ cls := "java/lang/StringUTF16", name := "coderFromArrayLen", desc := "([BI)B" } : Jvm.MethodName)) ∈ lw_all := lw_g (lw_at lw_m4 31 rfl) rfl
theorem q876 : (Jvm.Cond.fieldLink "java/lang/String" (9 : Nat) "java/lang/String" "value" "[B") ∈ lw_all := lw_g (lw_at lw_m4 34 rfl) rfl
theorem q877 : (Jvm.Cond.fieldLink "java/lang/String" (15 : Nat) "java/lang/String" "coder" "B") ∈ lw_all := lw_g (lw_at lw_m4 35 rfl) rfl
theorem q878 : (Jvm.Cond.laysFinal "java/lang/String" "java/lang/String" "value" "[B") ∈ lw_all := lw_g (lw_at lw_m4 36 rfl) rfl
theorem q879 : (Jvm.Cond.soleField "java/lang/String" "value") ∈ lw_all := lw_g (lw_at lw_m4 37 rfl) rfl
theorem q880 : (Jvm.Cond.laysFinal "java/lang/String" "java/lang/String" "coder" "B") ∈ lw_all := lw_g (lw_at lw_m4 38 rfl) rfl
theorem q881 : (Jvm.Cond.soleField "java/lang/String" "coder") ∈ lw_all := lw_g (lw_at lw_m4 39 rfl) rfl
theorem q882 : (Jvm.Cond.lays "java/lang/String" "java/lang/String" "hash" "I") ∈ lw_all := lw_g (lw_at lw_m4 40 rfl) rfl
theorem q883 : (Jvm.Cond.soleField "java/lang/String" "hash") ∈ lw_all := lw_g (lw_at lw_m4 41 rfl) rfl
theorem q884 : (Jvm.Cond.lays "java/lang/String" "java/lang/String" "hashIsZero" "Z") ∈ lw_all := lw_g (lw_at lw_m4 42 rfl) rfl
theorem q885 : (Jvm.Cond.soleField "java/lang/String" "hashIsZero") ∈ lw_all := lw_g (lw_at lw_m4 43 rfl) rfl
theorem q886 : (Jvm.Cond.superclass "java/lang/String" "java/lang/Object") ∈ lw_all := lw_g (lw_at lw_m4 44 rfl) rfl
theorem q1340 : (Jvm.Cond.instanceMethod ({ cls := "java/lang/String", name := "charAt", desc := "(I)C" } : Jvm.MethodName)) ∈ lw_all := lw_g (lw_at lw_m6 18 rfl) rfl
theorem q1341 : (Jvm.Cond.selects "java/lang/String" ({ cls := "java/lang/String", name := "charAt", desc := "(I)C" } : Jvm.MethodName) ({ cls := "java/lang/String", name := "charAt", desc := "(I)C" } : Jvm.MethodName)) ∈ lw_all := lw_g (lw_at lw_m6 19 rfl) rfl
theorem q1342 : (Jvm.Cond.code ({ cls := "java/lang/String", name := "charAt", desc := "(I)C" } : Jvm.MethodName) prog_34_method_56_code (2 : Nat) (Option.some Jvm.ClassFile.FieldType.char)) ∈ lw_all := lw_g (lw_at lw_m6 20 rfl) rfl
theorem q1343 : (Jvm.Cond.methodLink "java/lang/String" (492 : Nat) ({ cls := "java/lang/String", name := "isLatin1", desc := "()Z" } : Jvm.MethodName)) ∈ lw_all := lw_g (lw_at lw_m6 21 rfl) rfl
theorem q1344 : (Jvm.Cond.instanceMethod ({ cls := "java/lang/String", name := "isLatin1", desc := "()Z" } : Jvm.MethodName)) ∈ lw_all := lw_g (lw_at lw_m6 22 rfl) rfl
theorem q1345 : (Jvm.Cond.selects "java/lang/String" ({ cls := "java/lang/String", name := "isLatin1", desc := "()Z" } : Jvm.MethodName) ({ cls := "java/lang/String", name := "isLatin1", desc := "()Z" } : Jvm.MethodName)) ∈ lw_all := lw_g (lw_at lw_m6 23 rfl) rfl
theorem q1346 : (Jvm.Cond.code ({ cls := "java/lang/String", name := "isLatin1", desc := "()Z" } : Jvm.MethodName) prog_34_method_154_code (1 : Nat) (Option.some Jvm.ClassFile.FieldType.boolean)) ∈ lw_all := lw_g (lw_at lw_m6 24 rfl) rfl
theorem q1347 : (Jvm.Cond.methodLink "java/lang/String" (495 : Nat) ({ cls := "java/lang/StringLatin1", name := "charAt", desc := "([BI)C" } : Jvm.MethodName)) ∈ lw_all := lw_g (lw_at lw_m6 25 rfl) rfl
theorem q1351 : (Jvm.Cond.static ({ cls := "java/lang/String", name := "checkIndex", desc := "(II)V" } : Jvm.MethodName)) ∈ lw_all := lw_g (lw_at lw_m6 29 rfl) rfl
theorem q1352 : (Jvm.Cond.code ({ cls := "java/lang/String", name := "checkIndex", desc := "(II)V" } : Jvm.MethodName) prog_34_method_155_code (2 : Nat) (Option.none : Option Jvm.ClassFile.FieldType)) ∈ lw_all := lw_g (lw_at lw_m6 30 rfl) rfl
theorem q1353 : (Jvm.Cond.methodLink "java/lang/String" (1059 : Nat) ({ cls := "jdk/internal/util/Preconditions", name := "checkIndex", desc := "(IILjava/util/function/BiFunction;)I" } : Jvm.MethodName)) ∈ lw_all := lw_g (lw_at lw_m6 31 rfl) rfl
theorem q1356 : (Jvm.Cond.methodLink "java/lang/String" (498 : Nat) ({ cls := "java/lang/StringUTF16", name := "charAt", desc := "([BI)C" } : Jvm.MethodName)) ∈ lw_all := lw_g (lw_at lw_m6 34 rfl) rfl
theorem q2967 : (Jvm.Cond.castable "java/lang/String" "java/lang/Object") ∈ lw_tbl := lw_at lw_m12 205 rfl

abbrev cJ22_newLength : ByteArray := prog_72_method_27_code
def yJ22_newLength : MethodName := ⟨RJ22, "newLength", "(III)I"⟩
def dkwJ22_newLength_1 : List UInt8 := [184, 0, 201, 172]
abbrev dktJ22_newLength_1 : List UInt8 := dkwJ22_newLength_1 ++ []
def dkwJ22_newLength_0 : List UInt8 := [26, 27, 28, 184, 0, 194, 96, 62, 3, 29, 162, 0, 11, 29, 18, 200, 163, 0, 5, 29, 172, 26, 27]
abbrev dktJ22_newLength_0 : List UInt8 := dkwJ22_newLength_0 ++ dktJ22_newLength_1
theorem dksJ22_newLength_0 : cJ22_newLength.data.toList.drop 0 = dktJ22_newLength_0 := by decide +kernel
theorem dksJ22_newLength_1 : cJ22_newLength.data.toList.drop 23 = dktJ22_newLength_1 := dk_seg dksJ22_newLength_0 23 rfl rfl
theorem dJ22_newLength_0 : decode cJ22_newLength 0 = .ok (.iload_n 0, 1) := dk_26 (dk_at dksJ22_newLength_0 0 rfl rfl)
theorem dJ22_newLength_1 : decode cJ22_newLength 1 = .ok (.iload_n 1, 1) := dk_27 (dk_at dksJ22_newLength_0 1 rfl rfl)
theorem dJ22_newLength_2 : decode cJ22_newLength 2 = .ok (.iload_n 2, 1) := dk_28 (dk_at dksJ22_newLength_0 2 rfl rfl)
theorem dJ22_newLength_3 : decode cJ22_newLength 3 = .ok (.invokestatic 194, 3) := dk_184 0 194 (dk_at dksJ22_newLength_0 3 rfl rfl)
theorem dJ22_newLength_6 : decode cJ22_newLength 6 = .ok (.iadd, 1) := dk_96 (dk_at dksJ22_newLength_0 6 rfl rfl)
theorem dJ22_newLength_7 : decode cJ22_newLength 7 = .ok (.istore_n 3, 1) := dk_62 (dk_at dksJ22_newLength_0 7 rfl rfl)
theorem dJ22_newLength_8 : decode cJ22_newLength 8 = .ok (.iconst 0, 1) := dk_3 (dk_at dksJ22_newLength_0 8 rfl rfl)
theorem dJ22_newLength_9 : decode cJ22_newLength 9 = .ok (.iload_n 3, 1) := dk_29 (dk_at dksJ22_newLength_0 9 rfl rfl)
theorem dJ22_newLength_10 : decode cJ22_newLength 10 = .ok (.if_icmp .ge 11, 3) := dk_162 0 11 (dk_at dksJ22_newLength_0 10 rfl rfl)
theorem dJ22_newLength_13 : decode cJ22_newLength 13 = .ok (.iload_n 3, 1) := dk_29 (dk_at dksJ22_newLength_0 13 rfl rfl)
theorem dJ22_newLength_14 : decode cJ22_newLength 14 = .ok (.ldc 200, 2) := dk_18 200 (dk_at dksJ22_newLength_0 14 rfl rfl)
theorem dJ22_newLength_16 : decode cJ22_newLength 16 = .ok (.if_icmp .gt 5, 3) := dk_163 0 5 (dk_at dksJ22_newLength_0 16 rfl rfl)
theorem dJ22_newLength_19 : decode cJ22_newLength 19 = .ok (.iload_n 3, 1) := dk_29 (dk_at dksJ22_newLength_0 19 rfl rfl)
theorem dJ22_newLength_20 : decode cJ22_newLength 20 = .ok (.ireturn, 1) := dk_172 (dk_at dksJ22_newLength_0 20 rfl rfl)
theorem dJ22_newLength_21 : decode cJ22_newLength 21 = .ok (.iload_n 0, 1) := dk_26 (dk_at dksJ22_newLength_0 21 rfl rfl)
theorem dJ22_newLength_22 : decode cJ22_newLength 22 = .ok (.iload_n 1, 1) := dk_27 (dk_at dksJ22_newLength_0 22 rfl rfl)
theorem dJ22_newLength_23 : decode cJ22_newLength 23 = .ok (.invokestatic 201, 3) := dk_184 0 201 (dk_at dksJ22_newLength_1 0 rfl rfl)
theorem dJ22_newLength_26 : decode cJ22_newLength 26 = .ok (.ireturn, 1) := dk_172 (dk_at dksJ22_newLength_1 3 rfl rfl)
abbrev cJ22_hugeLength : ByteArray := prog_72_method_28_code
def yJ22_hugeLength : MethodName := ⟨RJ22, "hugeLength", "(II)I"⟩
def dkwJ22_hugeLength_2 : List UInt8 := [191, 28, 18, 200, 163, 0, 6, 18, 200, 172, 28, 172]
abbrev dktJ22_hugeLength_2 : List UInt8 := dkwJ22_hugeLength_2 ++ []
def dkwJ22_hugeLength_1 : List UInt8 := [26, 182, 0, 98, 18, 208, 182, 0, 94, 27, 182, 0, 98, 18, 210, 182, 0, 94, 182, 0, 101, 183, 0, 212]
abbrev dktJ22_hugeLength_1 : List UInt8 := dkwJ22_hugeLength_1 ++ dktJ22_hugeLength_2
def dkwJ22_hugeLength_0 : List UInt8 := [26, 27, 96, 61, 28, 156, 0, 44, 187, 0, 204, 89, 187, 0, 89, 89, 183, 0, 91, 18, 206, 182, 0, 94]
abbrev dktJ22_hugeLength_0 : List UInt8 := dkwJ22_hugeLength_0 ++ dktJ22_hugeLength_1
theorem dksJ22_hugeLength_0 : cJ22_hugeLength.data.toList.drop 0 = dktJ22_hugeLength_0 := by decide +kernel
theorem dksJ22_hugeLength_1 : cJ22_hugeLength.data.toList.drop 24 = dktJ22_hugeLength_1 := dk_seg dksJ22_hugeLength_0 24 rfl rfl
theorem dksJ22_hugeLength_2 : cJ22_hugeLength.data.toList.drop 48 = dktJ22_hugeLength_2 := dk_seg dksJ22_hugeLength_1 24 rfl rfl
theorem dJ22_hugeLength_0 : decode cJ22_hugeLength 0 = .ok (.iload_n 0, 1) := dk_26 (dk_at dksJ22_hugeLength_0 0 rfl rfl)
theorem dJ22_hugeLength_1 : decode cJ22_hugeLength 1 = .ok (.iload_n 1, 1) := dk_27 (dk_at dksJ22_hugeLength_0 1 rfl rfl)
theorem dJ22_hugeLength_2 : decode cJ22_hugeLength 2 = .ok (.iadd, 1) := dk_96 (dk_at dksJ22_hugeLength_0 2 rfl rfl)
theorem dJ22_hugeLength_3 : decode cJ22_hugeLength 3 = .ok (.istore_n 2, 1) := dk_61 (dk_at dksJ22_hugeLength_0 3 rfl rfl)
theorem dJ22_hugeLength_4 : decode cJ22_hugeLength 4 = .ok (.iload_n 2, 1) := dk_28 (dk_at dksJ22_hugeLength_0 4 rfl rfl)
theorem dJ22_hugeLength_5 : decode cJ22_hugeLength 5 = .ok (.ifCond .ge 44, 3) := dk_156 0 44 (dk_at dksJ22_hugeLength_0 5 rfl rfl)
theorem dJ22_hugeLength_8 : decode cJ22_hugeLength 8 = .ok (.new 204, 3) := dk_187 0 204 (dk_at dksJ22_hugeLength_0 8 rfl rfl)
theorem dJ22_hugeLength_11 : decode cJ22_hugeLength 11 = .ok (.dup, 1) := dk_89 (dk_at dksJ22_hugeLength_0 11 rfl rfl)
theorem dJ22_hugeLength_12 : decode cJ22_hugeLength 12 = .ok (.new 89, 3) := dk_187 0 89 (dk_at dksJ22_hugeLength_0 12 rfl rfl)
theorem dJ22_hugeLength_15 : decode cJ22_hugeLength 15 = .ok (.dup, 1) := dk_89 (dk_at dksJ22_hugeLength_0 15 rfl rfl)
theorem dJ22_hugeLength_16 : decode cJ22_hugeLength 16 = .ok (.invokespecial 91, 3) := dk_183 0 91 (dk_at dksJ22_hugeLength_0 16 rfl rfl)
theorem dJ22_hugeLength_19 : decode cJ22_hugeLength 19 = .ok (.ldc 206, 2) := dk_18 206 (dk_at dksJ22_hugeLength_0 19 rfl rfl)
theorem dJ22_hugeLength_21 : decode cJ22_hugeLength 21 = .ok (.invokevirtual 94, 3) := dk_182 0 94 (dk_at dksJ22_hugeLength_0 21 rfl rfl)
theorem dJ22_hugeLength_24 : decode cJ22_hugeLength 24 = .ok (.iload_n 0, 1) := dk_26 (dk_at dksJ22_hugeLength_1 0 rfl rfl)
theorem dJ22_hugeLength_25 : decode cJ22_hugeLength 25 = .ok (.invokevirtual 98, 3) := dk_182 0 98 (dk_at dksJ22_hugeLength_1 1 rfl rfl)
theorem dJ22_hugeLength_28 : decode cJ22_hugeLength 28 = .ok (.ldc 208, 2) := dk_18 208 (dk_at dksJ22_hugeLength_1 4 rfl rfl)
theorem dJ22_hugeLength_30 : decode cJ22_hugeLength 30 = .ok (.invokevirtual 94, 3) := dk_182 0 94 (dk_at dksJ22_hugeLength_1 6 rfl rfl)
theorem dJ22_hugeLength_33 : decode cJ22_hugeLength 33 = .ok (.iload_n 1, 1) := dk_27 (dk_at dksJ22_hugeLength_1 9 rfl rfl)
theorem dJ22_hugeLength_34 : decode cJ22_hugeLength 34 = .ok (.invokevirtual 98, 3) := dk_182 0 98 (dk_at dksJ22_hugeLength_1 10 rfl rfl)
theorem dJ22_hugeLength_37 : decode cJ22_hugeLength 37 = .ok (.ldc 210, 2) := dk_18 210 (dk_at dksJ22_hugeLength_1 13 rfl rfl)
theorem dJ22_hugeLength_39 : decode cJ22_hugeLength 39 = .ok (.invokevirtual 94, 3) := dk_182 0 94 (dk_at dksJ22_hugeLength_1 15 rfl rfl)
theorem dJ22_hugeLength_42 : decode cJ22_hugeLength 42 = .ok (.invokevirtual 101, 3) := dk_182 0 101 (dk_at dksJ22_hugeLength_1 18 rfl rfl)
theorem dJ22_hugeLength_45 : decode cJ22_hugeLength 45 = .ok (.invokespecial 212, 3) := dk_183 0 212 (dk_at dksJ22_hugeLength_1 21 rfl rfl)
theorem dJ22_hugeLength_48 : decode cJ22_hugeLength 48 = .ok (.athrow, 1) := dk_191 (dk_at dksJ22_hugeLength_2 0 rfl rfl)
theorem dJ22_hugeLength_49 : decode cJ22_hugeLength 49 = .ok (.iload_n 2, 1) := dk_28 (dk_at dksJ22_hugeLength_2 1 rfl rfl)
theorem dJ22_hugeLength_50 : decode cJ22_hugeLength 50 = .ok (.ldc 200, 2) := dk_18 200 (dk_at dksJ22_hugeLength_2 2 rfl rfl)
theorem dJ22_hugeLength_52 : decode cJ22_hugeLength 52 = .ok (.if_icmp .gt 6, 3) := dk_163 0 6 (dk_at dksJ22_hugeLength_2 4 rfl rfl)
theorem dJ22_hugeLength_55 : decode cJ22_hugeLength 55 = .ok (.ldc 200, 2) := dk_18 200 (dk_at dksJ22_hugeLength_2 7 rfl rfl)
theorem dJ22_hugeLength_57 : decode cJ22_hugeLength 57 = .ok (.ireturn, 1) := dk_172 (dk_at dksJ22_hugeLength_2 9 rfl rfl)
theorem dJ22_hugeLength_58 : decode cJ22_hugeLength 58 = .ok (.iload_n 2, 1) := dk_28 (dk_at dksJ22_hugeLength_2 10 rfl rfl)
theorem dJ22_hugeLength_59 : decode cJ22_hugeLength 59 = .ok (.ireturn, 1) := dk_172 (dk_at dksJ22_hugeLength_2 11 rfl rfl)
theorem q152 : (Jvm.Cond.initialized "jdk/internal/util/ArraysSupport") ∈ lw_all := lw_g (lw_at lw_m1 30 rfl) rfl
theorem q703 : (Jvm.Cond.static ({ cls := "jdk/internal/util/ArraysSupport", name := "newLength", desc := "(III)I" } : Jvm.MethodName)) ∈ lw_all := lw_g (lw_at lw_m3 101 rfl) rfl
theorem q704 : (Jvm.Cond.code ({ cls := "jdk/internal/util/ArraysSupport", name := "newLength", desc := "(III)I" } : Jvm.MethodName) prog_72_method_27_code (4 : Nat) (Option.some Jvm.ClassFile.FieldType.int)) ∈ lw_all := lw_g (lw_at lw_m3 102 rfl) rfl
theorem q705 : (Jvm.Cond.methodLink "jdk/internal/util/ArraysSupport" (194 : Nat) ({ cls := "java/lang/Math", name := "max", desc := "(II)I" } : Jvm.MethodName)) ∈ lw_all := lw_g (lw_at lw_m3 103 rfl) rfl
theorem q706 : (Jvm.Cond.constant "jdk/internal/util/ArraysSupport" (200 : Nat) (2147483639 : Int32)) ∈ lw_all := lw_g (lw_at lw_m3 104 rfl) rfl
theorem q707 : (Jvm.Cond.methodLink "jdk/internal/util/ArraysSupport" (201 : Nat) ({ cls := "jdk/internal/util/ArraysSupport", name := "hugeLength", desc := "(II)I" } : Jvm.MethodName)) ∈ lw_all := lw_g (lw_at lw_m3 105 rfl) rfl
theorem q708 : (Jvm.Cond.static ({ cls := "jdk/internal/util/ArraysSupport", name := "hugeLength", desc := "(II)I" } : Jvm.MethodName)) ∈ lw_all := lw_g (lw_at lw_m3 106 rfl) rfl
theorem q709 : (Jvm.Cond.code ({ cls := "jdk/internal/util/ArraysSupport", name := "hugeLength", desc := "(II)I" } : Jvm.MethodName) prog_72_method_28_code (3 : Nat) (Option.some Jvm.ClassFile.FieldType.int)) ∈ lw_all := lw_g (lw_at lw_m3 107 rfl) rfl

abbrev cJ23_copyOf : ByteArray := prog_50_method_121_code
def yJ23_copyOf : MethodName := ⟨RJ23, "copyOf", "([BI)[B"⟩
def dkwJ23_copyOf_1 : List UInt8 := [27, 184, 1, 48, 184, 0, 150, 44, 176]
abbrev dktJ23_copyOf_1 : List UInt8 := dkwJ23_copyOf_1 ++ []
def dkwJ23_copyOf_0 : List UInt8 := [27, 42, 190, 160, 0, 11, 42, 182, 1, 54, 192, 1, 55, 176, 27, 188, 8, 77, 42, 3, 44, 3, 42, 190]
abbrev dktJ23_copyOf_0 : List UInt8 := dkwJ23_copyOf_0 ++ dktJ23_copyOf_1
theorem dksJ23_copyOf_0 : cJ23_copyOf.data.toList.drop 0 = dktJ23_copyOf_0 := by decide +kernel
theorem dksJ23_copyOf_1 : cJ23_copyOf.data.toList.drop 24 = dktJ23_copyOf_1 := dk_seg dksJ23_copyOf_0 24 rfl rfl
theorem dJ23_copyOf_0 : decode cJ23_copyOf 0 = .ok (.iload_n 1, 1) := dk_27 (dk_at dksJ23_copyOf_0 0 rfl rfl)
theorem dJ23_copyOf_1 : decode cJ23_copyOf 1 = .ok (.aload_n 0, 1) := dk_42 (dk_at dksJ23_copyOf_0 1 rfl rfl)
theorem dJ23_copyOf_2 : decode cJ23_copyOf 2 = .ok (.arraylength, 1) := dk_190 (dk_at dksJ23_copyOf_0 2 rfl rfl)
theorem dJ23_copyOf_3 : decode cJ23_copyOf 3 = .ok (.if_icmp .ne 11, 3) := dk_160 0 11 (dk_at dksJ23_copyOf_0 3 rfl rfl)
theorem dJ23_copyOf_6 : decode cJ23_copyOf 6 = .ok (.aload_n 0, 1) := dk_42 (dk_at dksJ23_copyOf_0 6 rfl rfl)
theorem dJ23_copyOf_7 : decode cJ23_copyOf 7 = .ok (.invokevirtual 310, 3) := dk_182 1 54 (dk_at dksJ23_copyOf_0 7 rfl rfl)
theorem dJ23_copyOf_10 : decode cJ23_copyOf 10 = .ok (.checkcast 311, 3) := dk_192 1 55 (dk_at dksJ23_copyOf_0 10 rfl rfl)
theorem dJ23_copyOf_13 : decode cJ23_copyOf 13 = .ok (.areturn, 1) := dk_176 (dk_at dksJ23_copyOf_0 13 rfl rfl)
theorem dJ23_copyOf_14 : decode cJ23_copyOf 14 = .ok (.iload_n 1, 1) := dk_27 (dk_at dksJ23_copyOf_0 14 rfl rfl)
theorem dJ23_copyOf_15 : decode cJ23_copyOf 15 = .ok (.newarray .byte, 2) := dk_188_8 (dk_at dksJ23_copyOf_0 15 rfl rfl)
theorem dJ23_copyOf_17 : decode cJ23_copyOf 17 = .ok (.astore_n 2, 1) := dk_77 (dk_at dksJ23_copyOf_0 17 rfl rfl)
theorem dJ23_copyOf_18 : decode cJ23_copyOf 18 = .ok (.aload_n 0, 1) := dk_42 (dk_at dksJ23_copyOf_0 18 rfl rfl)
theorem dJ23_copyOf_19 : decode cJ23_copyOf 19 = .ok (.iconst 0, 1) := dk_3 (dk_at dksJ23_copyOf_0 19 rfl rfl)
theorem dJ23_copyOf_20 : decode cJ23_copyOf 20 = .ok (.aload_n 2, 1) := dk_44 (dk_at dksJ23_copyOf_0 20 rfl rfl)
theorem dJ23_copyOf_21 : decode cJ23_copyOf 21 = .ok (.iconst 0, 1) := dk_3 (dk_at dksJ23_copyOf_0 21 rfl rfl)
theorem dJ23_copyOf_22 : decode cJ23_copyOf 22 = .ok (.aload_n 0, 1) := dk_42 (dk_at dksJ23_copyOf_0 22 rfl rfl)
theorem dJ23_copyOf_23 : decode cJ23_copyOf 23 = .ok (.arraylength, 1) := dk_190 (dk_at dksJ23_copyOf_0 23 rfl rfl)
theorem dJ23_copyOf_24 : decode cJ23_copyOf 24 = .ok (.iload_n 1, 1) := dk_27 (dk_at dksJ23_copyOf_1 0 rfl rfl)
theorem dJ23_copyOf_25 : decode cJ23_copyOf 25 = .ok (.invokestatic 304, 3) := dk_184 1 48 (dk_at dksJ23_copyOf_1 1 rfl rfl)
theorem dJ23_copyOf_28 : decode cJ23_copyOf 28 = .ok (.invokestatic 150, 3) := dk_184 0 150 (dk_at dksJ23_copyOf_1 4 rfl rfl)
theorem dJ23_copyOf_31 : decode cJ23_copyOf 31 = .ok (.aload_n 2, 1) := dk_44 (dk_at dksJ23_copyOf_1 7 rfl rfl)
theorem dJ23_copyOf_32 : decode cJ23_copyOf 32 = .ok (.areturn, 1) := dk_176 (dk_at dksJ23_copyOf_1 8 rfl rfl)
abbrev cJ23_copyOfRange : ByteArray := prog_50_method_132_code
def yJ23_copyOfRange : MethodName := ⟨RJ23, "copyOfRange", "([BII)[B"⟩
def dkwJ23_copyOfRange_1 : List UInt8 := [176]
abbrev dktJ23_copyOfRange_1 : List UInt8 := dkwJ23_copyOfRange_1 ++ []
def dkwJ23_copyOfRange_0 : List UInt8 := [27, 154, 0, 9, 28, 42, 190, 159, 0, 10, 42, 27, 28, 184, 1, 83, 176, 42, 182, 1, 54, 192, 1, 55]
abbrev dktJ23_copyOfRange_0 : List UInt8 := dkwJ23_copyOfRange_0 ++ dktJ23_copyOfRange_1
theorem dksJ23_copyOfRange_0 : cJ23_copyOfRange.data.toList.drop 0 = dktJ23_copyOfRange_0 := by decide +kernel
theorem dksJ23_copyOfRange_1 : cJ23_copyOfRange.data.toList.drop 24 = dktJ23_copyOfRange_1 := dk_seg dksJ23_copyOfRange_0 24 rfl rfl
theorem dJ23_copyOfRange_0 : decode cJ23_copyOfRange 0 = .ok (.iload_n 1, 1) := dk_27 (dk_at dksJ23_copyOfRange_0 0 rfl rfl)
theorem dJ23_copyOfRange_1 : decode cJ23_copyOfRange 1 = .ok (.ifCond .ne 9, 3) := dk_154 0 9 (dk_at dksJ23_copyOfRange_0 1 rfl rfl)
theorem dJ23_copyOfRange_4 : decode cJ23_copyOfRange 4 = .ok (.iload_n 2, 1) := dk_28 (dk_at dksJ23_copyOfRange_0 4 rfl rfl)
theorem dJ23_copyOfRange_5 : decode cJ23_copyOfRange 5 = .ok (.aload_n 0, 1) := dk_42 (dk_at dksJ23_copyOfRange_0 5 rfl rfl)
theorem dJ23_copyOfRange_6 : decode cJ23_copyOfRange 6 = .ok (.arraylength, 1) := dk_190 (dk_at dksJ23_copyOfRange_0 6 rfl rfl)
theorem dJ23_copyOfRange_7 : decode cJ23_copyOfRange 7 = .ok (.if_icmp .eq 10, 3) := dk_159 0 10 (dk_at dksJ23_copyOfRange_0 7 rfl rfl)
theorem dJ23_copyOfRange_10 : decode cJ23_copyOfRange 10 = .ok (.aload_n 0, 1) := dk_42 (dk_at dksJ23_copyOfRange_0 10 rfl rfl)
theorem dJ23_copyOfRange_11 : decode cJ23_copyOfRange 11 = .ok (.iload_n 1, 1) := dk_27 (dk_at dksJ23_copyOfRange_0 11 rfl rfl)
theorem dJ23_copyOfRange_12 : decode cJ23_copyOfRange 12 = .ok (.iload_n 2, 1) := dk_28 (dk_at dksJ23_copyOfRange_0 12 rfl rfl)
theorem dJ23_copyOfRange_13 : decode cJ23_copyOfRange 13 = .ok (.invokestatic 339, 3) := dk_184 1 83 (dk_at dksJ23_copyOfRange_0 13 rfl rfl)
theorem dJ23_copyOfRange_16 : decode cJ23_copyOfRange 16 = .ok (.areturn, 1) := dk_176 (dk_at dksJ23_copyOfRange_0 16 rfl rfl)
theorem dJ23_copyOfRange_17 : decode cJ23_copyOfRange 17 = .ok (.aload_n 0, 1) := dk_42 (dk_at dksJ23_copyOfRange_0 17 rfl rfl)
theorem dJ23_copyOfRange_18 : decode cJ23_copyOfRange 18 = .ok (.invokevirtual 310, 3) := dk_182 1 54 (dk_at dksJ23_copyOfRange_0 18 rfl rfl)
theorem dJ23_copyOfRange_21 : decode cJ23_copyOfRange 21 = .ok (.checkcast 311, 3) := dk_192 1 55 (dk_at dksJ23_copyOfRange_0 21 rfl rfl)
theorem dJ23_copyOfRange_24 : decode cJ23_copyOfRange 24 = .ok (.areturn, 1) := dk_176 (dk_at dksJ23_copyOfRange_1 0 rfl rfl)
abbrev cJ23_copyOfRangeByte : ByteArray := prog_50_method_133_code
def yJ23_copyOfRangeByte : MethodName := ⟨RJ23, "copyOfRangeByte", "([BII)[B"⟩
def dkwJ23_copyOfRangeByte_1 : List UInt8 := [184, 1, 48, 184, 0, 150, 25, 4, 176]
abbrev dktJ23_copyOfRangeByte_1 : List UInt8 := dkwJ23_copyOfRangeByte_1 ++ []
def dkwJ23_copyOfRangeByte_0 : List UInt8 := [27, 28, 184, 1, 87, 28, 27, 100, 62, 29, 188, 8, 58, 4, 42, 27, 25, 4, 3, 42, 190, 27, 100, 29]
abbrev dktJ23_copyOfRangeByte_0 : List UInt8 := dkwJ23_copyOfRangeByte_0 ++ dktJ23_copyOfRangeByte_1
theorem dksJ23_copyOfRangeByte_0 : cJ23_copyOfRangeByte.data.toList.drop 0 = dktJ23_copyOfRangeByte_0 := by decide +kernel
theorem dksJ23_copyOfRangeByte_1 : cJ23_copyOfRangeByte.data.toList.drop 24 = dktJ23_copyOfRangeByte_1 := dk_seg dksJ23_copyOfRangeByte_0 24 rfl rfl
theorem dJ23_copyOfRangeByte_0 : decode cJ23_copyOfRangeByte 0 = .ok (.iload_n 1, 1) := dk_27 (dk_at dksJ23_copyOfRangeByte_0 0 rfl rfl)
theorem dJ23_copyOfRangeByte_1 : decode cJ23_copyOfRangeByte 1 = .ok (.iload_n 2, 1) := dk_28 (dk_at dksJ23_copyOfRangeByte_0 1 rfl rfl)
theorem dJ23_copyOfRangeByte_2 : decode cJ23_copyOfRangeByte 2 = .ok (.invokestatic 343, 3) := dk_184 1 87 (dk_at dksJ23_copyOfRangeByte_0 2 rfl rfl)
theorem dJ23_copyOfRangeByte_5 : decode cJ23_copyOfRangeByte 5 = .ok (.iload_n 2, 1) := dk_28 (dk_at dksJ23_copyOfRangeByte_0 5 rfl rfl)
theorem dJ23_copyOfRangeByte_6 : decode cJ23_copyOfRangeByte 6 = .ok (.iload_n 1, 1) := dk_27 (dk_at dksJ23_copyOfRangeByte_0 6 rfl rfl)
theorem dJ23_copyOfRangeByte_7 : decode cJ23_copyOfRangeByte 7 = .ok (.isub, 1) := dk_100 (dk_at dksJ23_copyOfRangeByte_0 7 rfl rfl)
theorem dJ23_copyOfRangeByte_8 : decode cJ23_copyOfRangeByte 8 = .ok (.istore_n 3, 1) := dk_62 (dk_at dksJ23_copyOfRangeByte_0 8 rfl rfl)
theorem dJ23_copyOfRangeByte_9 : decode cJ23_copyOfRangeByte 9 = .ok (.iload_n 3, 1) := dk_29 (dk_at dksJ23_copyOfRangeByte_0 9 rfl rfl)
theorem dJ23_copyOfRangeByte_10 : decode cJ23_copyOfRangeByte 10 = .ok (.newarray .byte, 2) := dk_188_8 (dk_at dksJ23_copyOfRangeByte_0 10 rfl rfl)
theorem dJ23_copyOfRangeByte_12 : decode cJ23_copyOfRangeByte 12 = .ok (.astore 4, 2) := dk_58 4 (dk_at dksJ23_copyOfRangeByte_0 12 rfl rfl)
theorem dJ23_copyOfRangeByte_14 : decode cJ23_copyOfRangeByte 14 = .ok (.aload_n 0, 1) := dk_42 (dk_at dksJ23_copyOfRangeByte_0 14 rfl rfl)
theorem dJ23_copyOfRangeByte_15 : decode cJ23_copyOfRangeByte 15 = .ok (.iload_n 1, 1) := dk_27 (dk_at dksJ23_copyOfRangeByte_0 15 rfl rfl)
theorem dJ23_copyOfRangeByte_16 : decode cJ23_copyOfRangeByte 16 = .ok (.aload 4, 2) := dk_25 4 (dk_at dksJ23_copyOfRangeByte_0 16 rfl rfl)
theorem dJ23_copyOfRangeByte_18 : decode cJ23_copyOfRangeByte 18 = .ok (.iconst 0, 1) := dk_3 (dk_at dksJ23_copyOfRangeByte_0 18 rfl rfl)
theorem dJ23_copyOfRangeByte_19 : decode cJ23_copyOfRangeByte 19 = .ok (.aload_n 0, 1) := dk_42 (dk_at dksJ23_copyOfRangeByte_0 19 rfl rfl)
theorem dJ23_copyOfRangeByte_20 : decode cJ23_copyOfRangeByte 20 = .ok (.arraylength, 1) := dk_190 (dk_at dksJ23_copyOfRangeByte_0 20 rfl rfl)
theorem dJ23_copyOfRangeByte_21 : decode cJ23_copyOfRangeByte 21 = .ok (.iload_n 1, 1) := dk_27 (dk_at dksJ23_copyOfRangeByte_0 21 rfl rfl)
theorem dJ23_copyOfRangeByte_22 : decode cJ23_copyOfRangeByte 22 = .ok (.isub, 1) := dk_100 (dk_at dksJ23_copyOfRangeByte_0 22 rfl rfl)
theorem dJ23_copyOfRangeByte_23 : decode cJ23_copyOfRangeByte 23 = .ok (.iload_n 3, 1) := dk_29 (dk_at dksJ23_copyOfRangeByte_0 23 rfl rfl)
theorem dJ23_copyOfRangeByte_24 : decode cJ23_copyOfRangeByte 24 = .ok (.invokestatic 304, 3) := dk_184 1 48 (dk_at dksJ23_copyOfRangeByte_1 0 rfl rfl)
theorem dJ23_copyOfRangeByte_27 : decode cJ23_copyOfRangeByte 27 = .ok (.invokestatic 150, 3) := dk_184 0 150 (dk_at dksJ23_copyOfRangeByte_1 3 rfl rfl)
theorem dJ23_copyOfRangeByte_30 : decode cJ23_copyOfRangeByte 30 = .ok (.aload 4, 2) := dk_25 4 (dk_at dksJ23_copyOfRangeByte_1 6 rfl rfl)
theorem dJ23_copyOfRangeByte_32 : decode cJ23_copyOfRangeByte 32 = .ok (.areturn, 1) := dk_176 (dk_at dksJ23_copyOfRangeByte_1 8 rfl rfl)
abbrev cJ23_checkLength : ByteArray := prog_50_method_131_code
def yJ23_checkLength : MethodName := ⟨RJ23, "checkLength", "(II)V"⟩
def dkwJ23_checkLength_1 : List UInt8 := [182, 0, 50, 27, 182, 0, 54, 182, 0, 61, 183, 0, 65, 191, 177]
abbrev dktJ23_checkLength_1 : List UInt8 := dkwJ23_checkLength_1 ++ []
def dkwJ23_checkLength_0 : List UInt8 := [27, 26, 162, 0, 35, 187, 0, 43, 89, 187, 0, 45, 89, 183, 0, 47, 26, 182, 0, 54, 19, 1, 81]
abbrev dktJ23_checkLength_0 : List UInt8 := dkwJ23_checkLength_0 ++ dktJ23_checkLength_1
theorem dksJ23_checkLength_0 : cJ23_checkLength.data.toList.drop 0 = dktJ23_checkLength_0 := by decide +kernel
theorem dksJ23_checkLength_1 : cJ23_checkLength.data.toList.drop 23 = dktJ23_checkLength_1 := dk_seg dksJ23_checkLength_0 23 rfl rfl
theorem dJ23_checkLength_0 : decode cJ23_checkLength 0 = .ok (.iload_n 1, 1) := dk_27 (dk_at dksJ23_checkLength_0 0 rfl rfl)
theorem dJ23_checkLength_1 : decode cJ23_checkLength 1 = .ok (.iload_n 0, 1) := dk_26 (dk_at dksJ23_checkLength_0 1 rfl rfl)
theorem dJ23_checkLength_2 : decode cJ23_checkLength 2 = .ok (.if_icmp .ge 35, 3) := dk_162 0 35 (dk_at dksJ23_checkLength_0 2 rfl rfl)
theorem dJ23_checkLength_5 : decode cJ23_checkLength 5 = .ok (.new 43, 3) := dk_187 0 43 (dk_at dksJ23_checkLength_0 5 rfl rfl)
theorem dJ23_checkLength_8 : decode cJ23_checkLength 8 = .ok (.dup, 1) := dk_89 (dk_at dksJ23_checkLength_0 8 rfl rfl)
theorem dJ23_checkLength_9 : decode cJ23_checkLength 9 = .ok (.new 45, 3) := dk_187 0 45 (dk_at dksJ23_checkLength_0 9 rfl rfl)
theorem dJ23_checkLength_12 : decode cJ23_checkLength 12 = .ok (.dup, 1) := dk_89 (dk_at dksJ23_checkLength_0 12 rfl rfl)
theorem dJ23_checkLength_13 : decode cJ23_checkLength 13 = .ok (.invokespecial 47, 3) := dk_183 0 47 (dk_at dksJ23_checkLength_0 13 rfl rfl)
theorem dJ23_checkLength_16 : decode cJ23_checkLength 16 = .ok (.iload_n 0, 1) := dk_26 (dk_at dksJ23_checkLength_0 16 rfl rfl)
theorem dJ23_checkLength_17 : decode cJ23_checkLength 17 = .ok (.invokevirtual 54, 3) := dk_182 0 54 (dk_at dksJ23_checkLength_0 17 rfl rfl)
theorem dJ23_checkLength_20 : decode cJ23_checkLength 20 = .ok (.ldc_w 337, 3) := dk_19 1 81 (dk_at dksJ23_checkLength_0 20 rfl rfl)
theorem dJ23_checkLength_23 : decode cJ23_checkLength 23 = .ok (.invokevirtual 50, 3) := dk_182 0 50 (dk_at dksJ23_checkLength_1 0 rfl rfl)
theorem dJ23_checkLength_26 : decode cJ23_checkLength 26 = .ok (.iload_n 1, 1) := dk_27 (dk_at dksJ23_checkLength_1 3 rfl rfl)
theorem dJ23_checkLength_27 : decode cJ23_checkLength 27 = .ok (.invokevirtual 54, 3) := dk_182 0 54 (dk_at dksJ23_checkLength_1 4 rfl rfl)
theorem dJ23_checkLength_30 : decode cJ23_checkLength 30 = .ok (.invokevirtual 61, 3) := dk_182 0 61 (dk_at dksJ23_checkLength_1 7 rfl rfl)
theorem dJ23_checkLength_33 : decode cJ23_checkLength 33 = .ok (.invokespecial 65, 3) := dk_183 0 65 (dk_at dksJ23_checkLength_1 10 rfl rfl)
theorem dJ23_checkLength_36 : decode cJ23_checkLength 36 = .ok (.athrow, 1) := dk_191 (dk_at dksJ23_checkLength_1 13 rfl rfl)
theorem dJ23_checkLength_37 : decode cJ23_checkLength 37 = .ok (.return_, 1) := dk_177 (dk_at dksJ23_checkLength_1 14 rfl rfl)
abbrev cJ23_copyOf_2 : ByteArray := prog_50_method_119_code
def yJ23_copyOf_2 : MethodName := ⟨RJ23, "copyOf", "([Ljava/lang/Object;I)[Ljava/lang/Object;"⟩
def dkwJ23_copyOf_2_0 : List UInt8 := [42, 27, 42, 182, 0, 86, 184, 1, 44, 176]
abbrev dktJ23_copyOf_2_0 : List UInt8 := dkwJ23_copyOf_2_0 ++ []
theorem dksJ23_copyOf_2_0 : cJ23_copyOf_2.data.toList.drop 0 = dktJ23_copyOf_2_0 := by decide +kernel
theorem dJ23_copyOf_2_0 : decode cJ23_copyOf_2 0 = .ok (.aload_n 0, 1) := dk_42 (dk_at dksJ23_copyOf_2_0 0 rfl rfl)
theorem dJ23_copyOf_2_1 : decode cJ23_copyOf_2 1 = .ok (.iload_n 1, 1) := dk_27 (dk_at dksJ23_copyOf_2_0 1 rfl rfl)
theorem dJ23_copyOf_2_2 : decode cJ23_copyOf_2 2 = .ok (.aload_n 0, 1) := dk_42 (dk_at dksJ23_copyOf_2_0 2 rfl rfl)
theorem dJ23_copyOf_2_3 : decode cJ23_copyOf_2 3 = .ok (.invokevirtual 86, 3) := dk_182 0 86 (dk_at dksJ23_copyOf_2_0 3 rfl rfl)
theorem dJ23_copyOf_2_6 : decode cJ23_copyOf_2 6 = .ok (.invokestatic 300, 3) := dk_184 1 44 (dk_at dksJ23_copyOf_2_0 6 rfl rfl)
theorem dJ23_copyOf_2_9 : decode cJ23_copyOf_2 9 = .ok (.areturn, 1) := dk_176 (dk_at dksJ23_copyOf_2_0 9 rfl rfl)
abbrev cJ23_copyOf_3 : ByteArray := prog_50_method_120_code
def yJ23_copyOf_3 : MethodName := ⟨RJ23, "copyOf", "([Ljava/lang/Object;ILjava/lang/Class;)[Ljava/lang/Object;"⟩
def dkwJ23_copyOf_3_1 : List UInt8 := [78, 42, 3, 45, 3, 42, 190, 27, 184, 1, 48, 184, 0, 150, 45, 176]
abbrev dktJ23_copyOf_3_1 : List UInt8 := dkwJ23_copyOf_3_1 ++ []
def dkwJ23_copyOf_3_0 : List UInt8 := [44, 18, 110, 166, 0, 10, 27, 189, 0, 2, 167, 0, 14, 44, 182, 0, 90, 27, 184, 0, 95, 192, 0, 110]
abbrev dktJ23_copyOf_3_0 : List UInt8 := dkwJ23_copyOf_3_0 ++ dktJ23_copyOf_3_1
theorem dksJ23_copyOf_3_0 : cJ23_copyOf_3.data.toList.drop 0 = dktJ23_copyOf_3_0 := by decide +kernel
theorem dksJ23_copyOf_3_1 : cJ23_copyOf_3.data.toList.drop 24 = dktJ23_copyOf_3_1 := dk_seg dksJ23_copyOf_3_0 24 rfl rfl
theorem dJ23_copyOf_3_0 : decode cJ23_copyOf_3 0 = .ok (.aload_n 2, 1) := dk_44 (dk_at dksJ23_copyOf_3_0 0 rfl rfl)
theorem dJ23_copyOf_3_1 : decode cJ23_copyOf_3 1 = .ok (.ldc 110, 2) := dk_18 110 (dk_at dksJ23_copyOf_3_0 1 rfl rfl)
theorem dJ23_copyOf_3_3 : decode cJ23_copyOf_3 3 = .ok (.if_acmp .ne 10, 3) := dk_166 0 10 (dk_at dksJ23_copyOf_3_0 3 rfl rfl)
theorem dJ23_copyOf_3_6 : decode cJ23_copyOf_3 6 = .ok (.iload_n 1, 1) := dk_27 (dk_at dksJ23_copyOf_3_0 6 rfl rfl)
theorem dJ23_copyOf_3_7 : decode cJ23_copyOf_3 7 = .ok (.anewarray 2, 3) := dk_189 0 2 (dk_at dksJ23_copyOf_3_0 7 rfl rfl)
theorem dJ23_copyOf_3_10 : decode cJ23_copyOf_3 10 = .ok (.goto 14, 3) := dk_167 0 14 (dk_at dksJ23_copyOf_3_0 10 rfl rfl)
theorem dJ23_copyOf_3_13 : decode cJ23_copyOf_3 13 = .ok (.aload_n 2, 1) := dk_44 (dk_at dksJ23_copyOf_3_0 13 rfl rfl)
theorem dJ23_copyOf_3_14 : decode cJ23_copyOf_3 14 = .ok (.invokevirtual 90, 3) := dk_182 0 90 (dk_at dksJ23_copyOf_3_0 14 rfl rfl)
theorem dJ23_copyOf_3_17 : decode cJ23_copyOf_3 17 = .ok (.iload_n 1, 1) := dk_27 (dk_at dksJ23_copyOf_3_0 17 rfl rfl)
theorem dJ23_copyOf_3_18 : decode cJ23_copyOf_3 18 = .ok (.invokestatic 95, 3) := dk_184 0 95 (dk_at dksJ23_copyOf_3_0 18 rfl rfl)
theorem dJ23_copyOf_3_21 : decode cJ23_copyOf_3 21 = .ok (.checkcast 110, 3) := dk_192 0 110 (dk_at dksJ23_copyOf_3_0 21 rfl rfl)
theorem dJ23_copyOf_3_24 : decode cJ23_copyOf_3 24 = .ok (.astore_n 3, 1) := dk_78 (dk_at dksJ23_copyOf_3_1 0 rfl rfl)
theorem dJ23_copyOf_3_25 : decode cJ23_copyOf_3 25 = .ok (.aload_n 0, 1) := dk_42 (dk_at dksJ23_copyOf_3_1 1 rfl rfl)
theorem dJ23_copyOf_3_26 : decode cJ23_copyOf_3 26 = .ok (.iconst 0, 1) := dk_3 (dk_at dksJ23_copyOf_3_1 2 rfl rfl)
theorem dJ23_copyOf_3_27 : decode cJ23_copyOf_3 27 = .ok (.aload_n 3, 1) := dk_45 (dk_at dksJ23_copyOf_3_1 3 rfl rfl)
theorem dJ23_copyOf_3_28 : decode cJ23_copyOf_3 28 = .ok (.iconst 0, 1) := dk_3 (dk_at dksJ23_copyOf_3_1 4 rfl rfl)
theorem dJ23_copyOf_3_29 : decode cJ23_copyOf_3 29 = .ok (.aload_n 0, 1) := dk_42 (dk_at dksJ23_copyOf_3_1 5 rfl rfl)
theorem dJ23_copyOf_3_30 : decode cJ23_copyOf_3 30 = .ok (.arraylength, 1) := dk_190 (dk_at dksJ23_copyOf_3_1 6 rfl rfl)
theorem dJ23_copyOf_3_31 : decode cJ23_copyOf_3 31 = .ok (.iload_n 1, 1) := dk_27 (dk_at dksJ23_copyOf_3_1 7 rfl rfl)
theorem dJ23_copyOf_3_32 : decode cJ23_copyOf_3 32 = .ok (.invokestatic 304, 3) := dk_184 1 48 (dk_at dksJ23_copyOf_3_1 8 rfl rfl)
theorem dJ23_copyOf_3_35 : decode cJ23_copyOf_3 35 = .ok (.invokestatic 150, 3) := dk_184 0 150 (dk_at dksJ23_copyOf_3_1 11 rfl rfl)
theorem dJ23_copyOf_3_38 : decode cJ23_copyOf_3 38 = .ok (.aload_n 3, 1) := dk_45 (dk_at dksJ23_copyOf_3_1 14 rfl rfl)
theorem dJ23_copyOf_3_39 : decode cJ23_copyOf_3 39 = .ok (.areturn, 1) := dk_176 (dk_at dksJ23_copyOf_3_1 15 rfl rfl)
abbrev cJ23_copyOf_4 : ByteArray := prog_50_method_124_code
def yJ23_copyOf_4 : MethodName := ⟨RJ23, "copyOf", "([JI)[J"⟩
def dkwJ23_copyOf_4_1 : List UInt8 := [27, 184, 1, 48, 184, 0, 150, 44, 176]
abbrev dktJ23_copyOf_4_1 : List UInt8 := dkwJ23_copyOf_4_1 ++ []
def dkwJ23_copyOf_4_0 : List UInt8 := [27, 42, 190, 160, 0, 11, 42, 182, 1, 63, 192, 1, 64, 176, 27, 188, 11, 77, 42, 3, 44, 3, 42, 190]
abbrev dktJ23_copyOf_4_0 : List UInt8 := dkwJ23_copyOf_4_0 ++ dktJ23_copyOf_4_1
theorem dksJ23_copyOf_4_0 : cJ23_copyOf_4.data.toList.drop 0 = dktJ23_copyOf_4_0 := by decide +kernel
theorem dksJ23_copyOf_4_1 : cJ23_copyOf_4.data.toList.drop 24 = dktJ23_copyOf_4_1 := dk_seg dksJ23_copyOf_4_0 24 rfl rfl
theorem dJ23_copyOf_4_0 : decode cJ23_copyOf_4 0 = .ok (.iload_n 1, 1) := dk_27 (dk_at dksJ23_copyOf_4_0 0 rfl rfl)
theorem dJ23_copyOf_4_1 : decode cJ23_copyOf_4 1 = .ok (.aload_n 0, 1) := dk_42 (dk_at dksJ23_copyOf_4_0 1 rfl rfl)
theorem dJ23_copyOf_4_2 : decode cJ23_copyOf_4 2 = .ok (.arraylength, 1) := dk_190 (dk_at dksJ23_copyOf_4_0 2 rfl rfl)
theorem dJ23_copyOf_4_3 : decode cJ23_copyOf_4 3 = .ok (.if_icmp .ne 11, 3) := dk_160 0 11 (dk_at dksJ23_copyOf_4_0 3 rfl rfl)
theorem dJ23_copyOf_4_6 : decode cJ23_copyOf_4 6 = .ok (.aload_n 0, 1) := dk_42 (dk_at dksJ23_copyOf_4_0 6 rfl rfl)
theorem dJ23_copyOf_4_7 : decode cJ23_copyOf_4 7 = .ok (.invokevirtual 319, 3) := dk_182 1 63 (dk_at dksJ23_copyOf_4_0 7 rfl rfl)
theorem dJ23_copyOf_4_10 : decode cJ23_copyOf_4 10 = .ok (.checkcast 320, 3) := dk_192 1 64 (dk_at dksJ23_copyOf_4_0 10 rfl rfl)
theorem dJ23_copyOf_4_13 : decode cJ23_copyOf_4 13 = .ok (.areturn, 1) := dk_176 (dk_at dksJ23_copyOf_4_0 13 rfl rfl)
theorem dJ23_copyOf_4_14 : decode cJ23_copyOf_4 14 = .ok (.iload_n 1, 1) := dk_27 (dk_at dksJ23_copyOf_4_0 14 rfl rfl)
theorem dJ23_copyOf_4_15 : decode cJ23_copyOf_4 15 = .ok (.newarray .long, 2) := dk_188_11 (dk_at dksJ23_copyOf_4_0 15 rfl rfl)
theorem dJ23_copyOf_4_17 : decode cJ23_copyOf_4 17 = .ok (.astore_n 2, 1) := dk_77 (dk_at dksJ23_copyOf_4_0 17 rfl rfl)
theorem dJ23_copyOf_4_18 : decode cJ23_copyOf_4 18 = .ok (.aload_n 0, 1) := dk_42 (dk_at dksJ23_copyOf_4_0 18 rfl rfl)
theorem dJ23_copyOf_4_19 : decode cJ23_copyOf_4 19 = .ok (.iconst 0, 1) := dk_3 (dk_at dksJ23_copyOf_4_0 19 rfl rfl)
theorem dJ23_copyOf_4_20 : decode cJ23_copyOf_4 20 = .ok (.aload_n 2, 1) := dk_44 (dk_at dksJ23_copyOf_4_0 20 rfl rfl)
theorem dJ23_copyOf_4_21 : decode cJ23_copyOf_4 21 = .ok (.iconst 0, 1) := dk_3 (dk_at dksJ23_copyOf_4_0 21 rfl rfl)
theorem dJ23_copyOf_4_22 : decode cJ23_copyOf_4 22 = .ok (.aload_n 0, 1) := dk_42 (dk_at dksJ23_copyOf_4_0 22 rfl rfl)
theorem dJ23_copyOf_4_23 : decode cJ23_copyOf_4 23 = .ok (.arraylength, 1) := dk_190 (dk_at dksJ23_copyOf_4_0 23 rfl rfl)
theorem dJ23_copyOf_4_24 : decode cJ23_copyOf_4 24 = .ok (.iload_n 1, 1) := dk_27 (dk_at dksJ23_copyOf_4_1 0 rfl rfl)
theorem dJ23_copyOf_4_25 : decode cJ23_copyOf_4 25 = .ok (.invokestatic 304, 3) := dk_184 1 48 (dk_at dksJ23_copyOf_4_1 1 rfl rfl)
theorem dJ23_copyOf_4_28 : decode cJ23_copyOf_4 28 = .ok (.invokestatic 150, 3) := dk_184 0 150 (dk_at dksJ23_copyOf_4_1 4 rfl rfl)
theorem dJ23_copyOf_4_31 : decode cJ23_copyOf_4 31 = .ok (.aload_n 2, 1) := dk_44 (dk_at dksJ23_copyOf_4_1 7 rfl rfl)
theorem dJ23_copyOf_4_32 : decode cJ23_copyOf_4 32 = .ok (.areturn, 1) := dk_176 (dk_at dksJ23_copyOf_4_1 8 rfl rfl)
theorem q153 : (Jvm.Cond.initialized "java/util/Arrays") ∈ lw_all := lw_g (lw_at lw_m1 31 rfl) rfl
theorem q712 : (Jvm.Cond.static ({ cls := "java/util/Arrays", name := "copyOf", desc := "([BI)[B" } : Jvm.MethodName)) ∈ lw_all := lw_g (lw_at lw_m3 110 rfl) rfl
theorem q713 : (Jvm.Cond.code ({ cls := "java/util/Arrays", name := "copyOf", desc := "([BI)[B" } : Jvm.MethodName) prog_50_method_121_code (3 : Nat) (Option.some (Jvm.ClassFile.FieldType.array Jvm.ClassFile.FieldType.byte))) ∈ lw_all := lw_g (lw_at lw_m3 111 rfl) rfl
theorem q714 : (Jvm.Cond.methodLink "java/util/Arrays" (310 : Nat) ({ cls := "[B", name := "clone", desc := "()Ljava/lang/Object;" } : Jvm.MethodName)) ∈ lw_all := lw_g (lw_at lw_m3 112 rfl) rfl
theorem q720 : (Jvm.Cond.classLink "java/util/Arrays" (311 : Nat) "[B") ∈ lw_all := lw_g (lw_at lw_m3 118 rfl) rfl
theorem q721 : (Jvm.Cond.methodLink "java/util/Arrays" (304 : Nat) ({ cls := "java/lang/Math", name := "min", desc := "(II)I" } : Jvm.MethodName)) ∈ lw_all := lw_g (lw_at lw_m3 119 rfl) rfl
theorem q724 : (Jvm.Cond.methodLink "java/util/Arrays" (150 : Nat) ({ cls := "java/lang/System", name := "arraycopy", desc := "(Ljava/lang/Object;ILjava/lang/Object;II)V" } : Jvm.MethodName)) ∈ lw_all := lw_g (lw_at lw_m3 122 rfl) rfl
theorem q855 : (Jvm.Cond.static ({ cls := "java/util/Arrays", name := "copyOfRange", desc := "([BII)[B" } : Jvm.MethodName)) ∈ lw_all := lw_g (lw_at lw_m4 13 rfl) rfl
theorem q856 : (Jvm.Cond.code ({ cls := "java/util/Arrays", name := "copyOfRange", desc := "([BII)[B" } : Jvm.MethodName) prog_50_method_132_code (3 : Nat) (Option.some (Jvm.ClassFile.FieldType.array Jvm.ClassFile.FieldType.byte))) ∈ lw_all := lw_g (lw_at lw_m4 14 rfl) rfl
theorem q857 : (Jvm.Cond.methodLink "java/util/Arrays" (339 : Nat) ({ cls := "java/util/Arrays", name := "copyOfRangeByte", desc := "([BII)[B" } : Jvm.MethodName)) ∈ lw_all := lw_g (lw_at lw_m4 15 rfl) rfl
theorem q858 : (Jvm.Cond.static ({ cls := "java/util/Arrays", name := "copyOfRangeByte", desc := "([BII)[B" } : Jvm.MethodName)) ∈ lw_all := lw_g (lw_at lw_m4 16 rfl) rfl
theorem q859 : (Jvm.Cond.code ({ cls := "java/util/Arrays", name := "copyOfRangeByte", desc := "([BII)[B" } : Jvm.MethodName) prog_50_method_133_code (5 : Nat) (Option.some (Jvm.ClassFile.FieldType.array Jvm.ClassFile.FieldType.byte))) ∈ lw_all := lw_g (lw_at lw_m4 17 rfl) rfl
theorem q860 : (Jvm.Cond.methodLink "java/util/Arrays" (343 : Nat) ({ cls := "java/util/Arrays", name := "checkLength", desc := "(II)V" } : Jvm.MethodName)) ∈ lw_all := lw_g (lw_at lw_m4 18 rfl) rfl
theorem q861 : (Jvm.Cond.static ({ cls := "java/util/Arrays", name := "checkLength", desc := "(II)V" } : Jvm.MethodName)) ∈ lw_all := lw_g (lw_at lw_m4 19 rfl) rfl
theorem q862 : (Jvm.Cond.code ({ cls := "java/util/Arrays", name := "checkLength", desc := "(II)V" } : Jvm.MethodName) prog_50_method_131_code (2 : Nat) (Option.none : Option Jvm.ClassFile.FieldType)) ∈ lw_all := lw_g (lw_at lw_m4 20 rfl) rfl
theorem q1737 : (Jvm.Cond.static ({ cls := "java/util/Arrays", name := "copyOf", desc := "([Ljava/lang/Object;I)[Ljava/lang/Object;" } : Jvm.MethodName)) ∈ lw_all := lw_g (lw_at lw_m7 175 rfl) rfl
theorem q1738 : (Jvm.Cond.code ({ cls := "java/util/Arrays", name := "copyOf", desc := "([Ljava/lang/Object;I)[Ljava/lang/Object;" } : Jvm.MethodName) prog_50_method_119_code (2 : Nat) (Option.some (Jvm.ClassFile.FieldType.array (Jvm.ClassFile.FieldType.object "java/lang/Object")))) ∈ lw_all := lw_g (lw_at lw_m7 176 rfl) rfl
theorem q1739 : (Jvm.Cond.methodLink "java/util/Arrays" (86 : Nat) ({ cls := "java/lang/Object", name := "getClass", desc := "()Ljava/lang/Class;" } : Jvm.MethodName)) ∈ lw_all := lw_g (lw_at lw_m7 177 rfl) rfl
theorem q1740 : (Jvm.Cond.methodLink "java/util/Arrays" (300 : Nat) ({ cls := "java/util/Arrays", name := "copyOf", desc := "([Ljava/lang/Object;ILjava/lang/Class;)[Ljava/lang/Object;" } : Jvm.MethodName)) ∈ lw_all := lw_g (lw_at lw_m7 178 rfl) rfl
theorem q1741 : (Jvm.Cond.static ({ cls := "java/util/Arrays", name := "copyOf", desc := "([Ljava/lang/Object;ILjava/lang/Class;)[Ljava/lang/Object;" } : Jvm.MethodName)) ∈ lw_all := lw_g (lw_at lw_m7 179 rfl) rfl
theorem q1742 : (Jvm.Cond.code ({ cls := "java/util/Arrays", name := "copyOf", desc := "([Ljava/lang/Object;ILjava/lang/Class;)[Ljava/lang/Object;" } : Jvm.MethodName) prog_50_method_120_code (4 : Nat) (Option.some (Jvm.ClassFile.FieldType.array (Jvm.ClassFile.FieldType.object "java/lang/Object")))) ∈ lw_all := lw_g (lw_at lw_m7 180 rfl) rfl
theorem q1743 : (Jvm.Cond.classLink "java/util/Arrays" (110 : Nat) "[Ljava/lang/Object;") ∈ lw_all := lw_g (lw_at lw_m7 181 rfl) rfl
theorem q1744 : (Jvm.Cond.classLink "java/util/Arrays" (2 : Nat) "java/lang/Object") ∈ lw_all := lw_g (lw_at lw_m7 182 rfl) rfl
theorem q1761 : (Jvm.Cond.static ({ cls := "java/util/Arrays", name := "copyOf", desc := "([JI)[J" } : Jvm.MethodName)) ∈ lw_all := lw_g (lw_at lw_m7 199 rfl) rfl
theorem q1762 : (Jvm.Cond.code ({ cls := "java/util/Arrays", name := "copyOf", desc := "([JI)[J" } : Jvm.MethodName) prog_50_method_124_code (3 : Nat) (Option.some (Jvm.ClassFile.FieldType.array Jvm.ClassFile.FieldType.long))) ∈ lw_all := lw_g (lw_at lw_m7 200 rfl) rfl
theorem q1763 : (Jvm.Cond.methodLink "java/util/Arrays" (319 : Nat) ({ cls := "[J", name := "clone", desc := "()Ljava/lang/Object;" } : Jvm.MethodName)) ∈ lw_all := lw_g (lw_at lw_m7 201 rfl) rfl
theorem q1767 : (Jvm.Cond.classLink "java/util/Arrays" (320 : Nat) "[J") ∈ lw_all := lw_g (lw_at lw_m7 205 rfl) rfl

abbrev cJ24_checkFromToIndex : ByteArray := prog_73_method_12_code
def yJ24_checkFromToIndex : MethodName := ⟨RJ24, "checkFromToIndex", "(IIILjava/util/function/BiFunction;)I"⟩
def dkwJ24_checkFromToIndex_0 : List UInt8 := [26, 155, 0, 13, 26, 27, 163, 0, 8, 27, 28, 164, 0, 11, 45, 26, 27, 28, 184, 0, 99, 191, 26, 172]
abbrev dktJ24_checkFromToIndex_0 : List UInt8 := dkwJ24_checkFromToIndex_0 ++ []
theorem dksJ24_checkFromToIndex_0 : cJ24_checkFromToIndex.data.toList.drop 0 = dktJ24_checkFromToIndex_0 := by decide +kernel
theorem dJ24_checkFromToIndex_0 : decode cJ24_checkFromToIndex 0 = .ok (.iload_n 0, 1) := dk_26 (dk_at dksJ24_checkFromToIndex_0 0 rfl rfl)
theorem dJ24_checkFromToIndex_1 : decode cJ24_checkFromToIndex 1 = .ok (.ifCond .lt 13, 3) := dk_155 0 13 (dk_at dksJ24_checkFromToIndex_0 1 rfl rfl)
theorem dJ24_checkFromToIndex_4 : decode cJ24_checkFromToIndex 4 = .ok (.iload_n 0, 1) := dk_26 (dk_at dksJ24_checkFromToIndex_0 4 rfl rfl)
theorem dJ24_checkFromToIndex_5 : decode cJ24_checkFromToIndex 5 = .ok (.iload_n 1, 1) := dk_27 (dk_at dksJ24_checkFromToIndex_0 5 rfl rfl)
theorem dJ24_checkFromToIndex_6 : decode cJ24_checkFromToIndex 6 = .ok (.if_icmp .gt 8, 3) := dk_163 0 8 (dk_at dksJ24_checkFromToIndex_0 6 rfl rfl)
theorem dJ24_checkFromToIndex_9 : decode cJ24_checkFromToIndex 9 = .ok (.iload_n 1, 1) := dk_27 (dk_at dksJ24_checkFromToIndex_0 9 rfl rfl)
theorem dJ24_checkFromToIndex_10 : decode cJ24_checkFromToIndex 10 = .ok (.iload_n 2, 1) := dk_28 (dk_at dksJ24_checkFromToIndex_0 10 rfl rfl)
theorem dJ24_checkFromToIndex_11 : decode cJ24_checkFromToIndex 11 = .ok (.if_icmp .le 11, 3) := dk_164 0 11 (dk_at dksJ24_checkFromToIndex_0 11 rfl rfl)
theorem dJ24_checkFromToIndex_14 : decode cJ24_checkFromToIndex 14 = .ok (.aload_n 3, 1) := dk_45 (dk_at dksJ24_checkFromToIndex_0 14 rfl rfl)
theorem dJ24_checkFromToIndex_15 : decode cJ24_checkFromToIndex 15 = .ok (.iload_n 0, 1) := dk_26 (dk_at dksJ24_checkFromToIndex_0 15 rfl rfl)
theorem dJ24_checkFromToIndex_16 : decode cJ24_checkFromToIndex 16 = .ok (.iload_n 1, 1) := dk_27 (dk_at dksJ24_checkFromToIndex_0 16 rfl rfl)
theorem dJ24_checkFromToIndex_17 : decode cJ24_checkFromToIndex 17 = .ok (.iload_n 2, 1) := dk_28 (dk_at dksJ24_checkFromToIndex_0 17 rfl rfl)
theorem dJ24_checkFromToIndex_18 : decode cJ24_checkFromToIndex 18 = .ok (.invokestatic 99, 3) := dk_184 0 99 (dk_at dksJ24_checkFromToIndex_0 18 rfl rfl)
theorem dJ24_checkFromToIndex_21 : decode cJ24_checkFromToIndex 21 = .ok (.athrow, 1) := dk_191 (dk_at dksJ24_checkFromToIndex_0 21 rfl rfl)
theorem dJ24_checkFromToIndex_22 : decode cJ24_checkFromToIndex 22 = .ok (.iload_n 0, 1) := dk_26 (dk_at dksJ24_checkFromToIndex_0 22 rfl rfl)
theorem dJ24_checkFromToIndex_23 : decode cJ24_checkFromToIndex 23 = .ok (.ireturn, 1) := dk_172 (dk_at dksJ24_checkFromToIndex_0 23 rfl rfl)
abbrev cJ24_checkFromIndexSize : ByteArray := prog_73_method_13_code
def yJ24_checkFromIndexSize : MethodName := ⟨RJ24, "checkFromIndexSize", "(IIILjava/util/function/BiFunction;)I"⟩
def dkwJ24_checkFromIndexSize_1 : List UInt8 := [172]
abbrev dktJ24_checkFromIndexSize_1 : List UInt8 := dkwJ24_checkFromIndexSize_1 ++ []
def dkwJ24_checkFromIndexSize_0 : List UInt8 := [28, 26, 128, 27, 128, 155, 0, 10, 27, 28, 26, 100, 164, 0, 11, 45, 26, 27, 28, 184, 0, 103, 191, 26]
abbrev dktJ24_checkFromIndexSize_0 : List UInt8 := dkwJ24_checkFromIndexSize_0 ++ dktJ24_checkFromIndexSize_1
theorem dksJ24_checkFromIndexSize_0 : cJ24_checkFromIndexSize.data.toList.drop 0 = dktJ24_checkFromIndexSize_0 := by decide +kernel
theorem dksJ24_checkFromIndexSize_1 : cJ24_checkFromIndexSize.data.toList.drop 24 = dktJ24_checkFromIndexSize_1 := dk_seg dksJ24_checkFromIndexSize_0 24 rfl rfl
theorem dJ24_checkFromIndexSize_0 : decode cJ24_checkFromIndexSize 0 = .ok (.iload_n 2, 1) := dk_28 (dk_at dksJ24_checkFromIndexSize_0 0 rfl rfl)
theorem dJ24_checkFromIndexSize_1 : decode cJ24_checkFromIndexSize 1 = .ok (.iload_n 0, 1) := dk_26 (dk_at dksJ24_checkFromIndexSize_0 1 rfl rfl)
theorem dJ24_checkFromIndexSize_2 : decode cJ24_checkFromIndexSize 2 = .ok (.ior, 1) := dk_128 (dk_at dksJ24_checkFromIndexSize_0 2 rfl rfl)
theorem dJ24_checkFromIndexSize_3 : decode cJ24_checkFromIndexSize 3 = .ok (.iload_n 1, 1) := dk_27 (dk_at dksJ24_checkFromIndexSize_0 3 rfl rfl)
theorem dJ24_checkFromIndexSize_4 : decode cJ24_checkFromIndexSize 4 = .ok (.ior, 1) := dk_128 (dk_at dksJ24_checkFromIndexSize_0 4 rfl rfl)
theorem dJ24_checkFromIndexSize_5 : decode cJ24_checkFromIndexSize 5 = .ok (.ifCond .lt 10, 3) := dk_155 0 10 (dk_at dksJ24_checkFromIndexSize_0 5 rfl rfl)
theorem dJ24_checkFromIndexSize_8 : decode cJ24_checkFromIndexSize 8 = .ok (.iload_n 1, 1) := dk_27 (dk_at dksJ24_checkFromIndexSize_0 8 rfl rfl)
theorem dJ24_checkFromIndexSize_9 : decode cJ24_checkFromIndexSize 9 = .ok (.iload_n 2, 1) := dk_28 (dk_at dksJ24_checkFromIndexSize_0 9 rfl rfl)
theorem dJ24_checkFromIndexSize_10 : decode cJ24_checkFromIndexSize 10 = .ok (.iload_n 0, 1) := dk_26 (dk_at dksJ24_checkFromIndexSize_0 10 rfl rfl)
theorem dJ24_checkFromIndexSize_11 : decode cJ24_checkFromIndexSize 11 = .ok (.isub, 1) := dk_100 (dk_at dksJ24_checkFromIndexSize_0 11 rfl rfl)
theorem dJ24_checkFromIndexSize_12 : decode cJ24_checkFromIndexSize 12 = .ok (.if_icmp .le 11, 3) := dk_164 0 11 (dk_at dksJ24_checkFromIndexSize_0 12 rfl rfl)
theorem dJ24_checkFromIndexSize_15 : decode cJ24_checkFromIndexSize 15 = .ok (.aload_n 3, 1) := dk_45 (dk_at dksJ24_checkFromIndexSize_0 15 rfl rfl)
theorem dJ24_checkFromIndexSize_16 : decode cJ24_checkFromIndexSize 16 = .ok (.iload_n 0, 1) := dk_26 (dk_at dksJ24_checkFromIndexSize_0 16 rfl rfl)
theorem dJ24_checkFromIndexSize_17 : decode cJ24_checkFromIndexSize 17 = .ok (.iload_n 1, 1) := dk_27 (dk_at dksJ24_checkFromIndexSize_0 17 rfl rfl)
theorem dJ24_checkFromIndexSize_18 : decode cJ24_checkFromIndexSize 18 = .ok (.iload_n 2, 1) := dk_28 (dk_at dksJ24_checkFromIndexSize_0 18 rfl rfl)
theorem dJ24_checkFromIndexSize_19 : decode cJ24_checkFromIndexSize 19 = .ok (.invokestatic 103, 3) := dk_184 0 103 (dk_at dksJ24_checkFromIndexSize_0 19 rfl rfl)
theorem dJ24_checkFromIndexSize_22 : decode cJ24_checkFromIndexSize 22 = .ok (.athrow, 1) := dk_191 (dk_at dksJ24_checkFromIndexSize_0 22 rfl rfl)
theorem dJ24_checkFromIndexSize_23 : decode cJ24_checkFromIndexSize 23 = .ok (.iload_n 0, 1) := dk_26 (dk_at dksJ24_checkFromIndexSize_0 23 rfl rfl)
theorem dJ24_checkFromIndexSize_24 : decode cJ24_checkFromIndexSize 24 = .ok (.ireturn, 1) := dk_172 (dk_at dksJ24_checkFromIndexSize_1 0 rfl rfl)
abbrev cJ24_checkIndex : ByteArray := prog_73_method_11_code
def yJ24_checkIndex : MethodName := ⟨RJ24, "checkIndex", "(IILjava/util/function/BiFunction;)I"⟩
def dkwJ24_checkIndex_0 : List UInt8 := [26, 155, 0, 8, 26, 27, 161, 0, 10, 44, 26, 27, 184, 0, 95, 191, 26, 172]
abbrev dktJ24_checkIndex_0 : List UInt8 := dkwJ24_checkIndex_0 ++ []
theorem dksJ24_checkIndex_0 : cJ24_checkIndex.data.toList.drop 0 = dktJ24_checkIndex_0 := by decide +kernel
theorem dJ24_checkIndex_0 : decode cJ24_checkIndex 0 = .ok (.iload_n 0, 1) := dk_26 (dk_at dksJ24_checkIndex_0 0 rfl rfl)
theorem dJ24_checkIndex_1 : decode cJ24_checkIndex 1 = .ok (.ifCond .lt 8, 3) := dk_155 0 8 (dk_at dksJ24_checkIndex_0 1 rfl rfl)
theorem dJ24_checkIndex_4 : decode cJ24_checkIndex 4 = .ok (.iload_n 0, 1) := dk_26 (dk_at dksJ24_checkIndex_0 4 rfl rfl)
theorem dJ24_checkIndex_5 : decode cJ24_checkIndex 5 = .ok (.iload_n 1, 1) := dk_27 (dk_at dksJ24_checkIndex_0 5 rfl rfl)
theorem dJ24_checkIndex_6 : decode cJ24_checkIndex 6 = .ok (.if_icmp .lt 10, 3) := dk_161 0 10 (dk_at dksJ24_checkIndex_0 6 rfl rfl)
theorem dJ24_checkIndex_9 : decode cJ24_checkIndex 9 = .ok (.aload_n 2, 1) := dk_44 (dk_at dksJ24_checkIndex_0 9 rfl rfl)
theorem dJ24_checkIndex_10 : decode cJ24_checkIndex 10 = .ok (.iload_n 0, 1) := dk_26 (dk_at dksJ24_checkIndex_0 10 rfl rfl)
theorem dJ24_checkIndex_11 : decode cJ24_checkIndex 11 = .ok (.iload_n 1, 1) := dk_27 (dk_at dksJ24_checkIndex_0 11 rfl rfl)
theorem dJ24_checkIndex_12 : decode cJ24_checkIndex 12 = .ok (.invokestatic 95, 3) := dk_184 0 95 (dk_at dksJ24_checkIndex_0 12 rfl rfl)
theorem dJ24_checkIndex_15 : decode cJ24_checkIndex 15 = .ok (.athrow, 1) := dk_191 (dk_at dksJ24_checkIndex_0 15 rfl rfl)
theorem dJ24_checkIndex_16 : decode cJ24_checkIndex 16 = .ok (.iload_n 0, 1) := dk_26 (dk_at dksJ24_checkIndex_0 16 rfl rfl)
theorem dJ24_checkIndex_17 : decode cJ24_checkIndex 17 = .ok (.ireturn, 1) := dk_172 (dk_at dksJ24_checkIndex_0 17 rfl rfl)
theorem q155 : (Jvm.Cond.initialized "jdk/internal/util/Preconditions") ∈ lw_all := lw_g (lw_at lw_m1 33 rfl) rfl
theorem q745 : (Jvm.Cond.laysStatic "jdk/internal/util/Preconditions" "SIOOBE_FORMATTER" "Ljava/util/function/BiFunction;") ∈ lw_tbl := lw_at lw_m3 143 rfl
theorem q747 : (Jvm.Cond.static ({ cls := "jdk/internal/util/Preconditions", name := "checkFromToIndex", desc := "(IIILjava/util/function/BiFunction;)I" } : Jvm.MethodName)) ∈ lw_all := lw_g (lw_at lw_m3 145 rfl) rfl
theorem q748 : (Jvm.Cond.code ({ cls := "jdk/internal/util/Preconditions", name := "checkFromToIndex", desc := "(IIILjava/util/function/BiFunction;)I" } : Jvm.MethodName) prog_73_method_12_code (4 : Nat) (Option.some Jvm.ClassFile.FieldType.int)) ∈ lw_all := lw_g (lw_at lw_m3 146 rfl) rfl
theorem q793 : (Jvm.Cond.static ({ cls := "jdk/internal/util/Preconditions", name := "checkFromIndexSize", desc := "(IIILjava/util/function/BiFunction;)I" } : Jvm.MethodName)) ∈ lw_all := lw_g (lw_at lw_m3 191 rfl) rfl
theorem q794 : (Jvm.Cond.code ({ cls := "jdk/internal/util/Preconditions", name := "checkFromIndexSize", desc := "(IIILjava/util/function/BiFunction;)I" } : Jvm.MethodName) prog_73_method_13_code (4 : Nat) (Option.some Jvm.ClassFile.FieldType.int)) ∈ lw_all := lw_g (lw_at lw_m3 192 rfl) rfl
theorem q1354 : (Jvm.Cond.static ({ cls := "jdk/internal/util/Preconditions", name := "checkIndex", desc := "(IILjava/util/function/BiFunction;)I" } : Jvm.MethodName)) ∈ lw_all := lw_g (lw_at lw_m6 32 rfl) rfl
theorem q1355 : (Jvm.Cond.code ({ cls := "jdk/internal/util/Preconditions", name := "checkIndex", desc := "(IILjava/util/function/BiFunction;)I" } : Jvm.MethodName) prog_73_method_11_code (3 : Nat) (Option.some Jvm.ClassFile.FieldType.int)) ∈ lw_all := lw_g (lw_at lw_m6 33 rfl) rfl

abbrev cJ25_inflate : ByteArray := prog_36_method_50_code
def yJ25_inflate : MethodName := ⟨RJ25, "inflate", "([BI[BII)V"⟩
def dkwJ25_inflate_0 : List UInt8 := [42, 27, 44, 29, 21, 4, 184, 0, 240, 177]
abbrev dktJ25_inflate_0 : List UInt8 := dkwJ25_inflate_0 ++ []
theorem dksJ25_inflate_0 : cJ25_inflate.data.toList.drop 0 = dktJ25_inflate_0 := by decide +kernel
theorem dJ25_inflate_0 : decode cJ25_inflate 0 = .ok (.aload_n 0, 1) := dk_42 (dk_at dksJ25_inflate_0 0 rfl rfl)
theorem dJ25_inflate_1 : decode cJ25_inflate 1 = .ok (.iload_n 1, 1) := dk_27 (dk_at dksJ25_inflate_0 1 rfl rfl)
theorem dJ25_inflate_2 : decode cJ25_inflate 2 = .ok (.aload_n 2, 1) := dk_44 (dk_at dksJ25_inflate_0 2 rfl rfl)
theorem dJ25_inflate_3 : decode cJ25_inflate 3 = .ok (.iload_n 3, 1) := dk_29 (dk_at dksJ25_inflate_0 3 rfl rfl)
theorem dJ25_inflate_4 : decode cJ25_inflate 4 = .ok (.iload 4, 2) := dk_21 4 (dk_at dksJ25_inflate_0 4 rfl rfl)
theorem dJ25_inflate_6 : decode cJ25_inflate 6 = .ok (.invokestatic 240, 3) := dk_184 0 240 (dk_at dksJ25_inflate_0 6 rfl rfl)
theorem dJ25_inflate_9 : decode cJ25_inflate 9 = .ok (.return_, 1) := dk_177 (dk_at dksJ25_inflate_0 9 rfl rfl)
abbrev cJ25_charAt : ByteArray := prog_36_method_2_code
def yJ25_charAt : MethodName := ⟨RJ25, "charAt", "([BI)C"⟩
def dkwJ25_charAt_0 : List UInt8 := [27, 42, 190, 184, 0, 9, 42, 27, 51, 17, 0, 255, 126, 146, 172]
abbrev dktJ25_charAt_0 : List UInt8 := dkwJ25_charAt_0 ++ []
theorem dksJ25_charAt_0 : cJ25_charAt.data.toList.drop 0 = dktJ25_charAt_0 := by decide +kernel
theorem dJ25_charAt_0 : decode cJ25_charAt 0 = .ok (.iload_n 1, 1) := dk_27 (dk_at dksJ25_charAt_0 0 rfl rfl)
theorem dJ25_charAt_1 : decode cJ25_charAt 1 = .ok (.aload_n 0, 1) := dk_42 (dk_at dksJ25_charAt_0 1 rfl rfl)
theorem dJ25_charAt_2 : decode cJ25_charAt 2 = .ok (.arraylength, 1) := dk_190 (dk_at dksJ25_charAt_0 2 rfl rfl)
theorem dJ25_charAt_3 : decode cJ25_charAt 3 = .ok (.invokestatic 9, 3) := dk_184 0 9 (dk_at dksJ25_charAt_0 3 rfl rfl)
theorem dJ25_charAt_6 : decode cJ25_charAt 6 = .ok (.aload_n 0, 1) := dk_42 (dk_at dksJ25_charAt_0 6 rfl rfl)
theorem dJ25_charAt_7 : decode cJ25_charAt 7 = .ok (.iload_n 1, 1) := dk_27 (dk_at dksJ25_charAt_0 7 rfl rfl)
theorem dJ25_charAt_8 : decode cJ25_charAt 8 = .ok (.baload, 1) := dk_51 (dk_at dksJ25_charAt_0 8 rfl rfl)
theorem dJ25_charAt_9 : decode cJ25_charAt 9 = .ok (.sipush 255, 3) := dk_17 0 255 (dk_at dksJ25_charAt_0 9 rfl rfl)
theorem dJ25_charAt_12 : decode cJ25_charAt 12 = .ok (.iand, 1) := dk_126 (dk_at dksJ25_charAt_0 12 rfl rfl)
theorem dJ25_charAt_13 : decode cJ25_charAt 13 = .ok (.i2c, 1) := dk_146 (dk_at dksJ25_charAt_0 13 rfl rfl)
theorem dJ25_charAt_14 : decode cJ25_charAt 14 = .ok (.ireturn, 1) := dk_172 (dk_at dksJ25_charAt_0 14 rfl rfl)
theorem q156 : (Jvm.Cond.initialized "java/lang/StringLatin1") ∈ lw_all := lw_g (lw_at lw_m1 34 rfl) rfl
theorem q781 : (Jvm.Cond.static ({ cls := "java/lang/StringLatin1", name := "inflate", desc := "([BI[BII)V" } : Jvm.MethodName)) ∈ lw_all := lw_g (lw_at lw_m3 179 rfl) rfl
theorem q782 : (Jvm.Cond.code ({ cls := "java/lang/StringLatin1", name := "inflate", desc := "([BI[BII)V" } : Jvm.MethodName) prog_36_method_50_code (5 : Nat) (Option.none : Option Jvm.ClassFile.FieldType)) ∈ lw_all := lw_g (lw_at lw_m3 180 rfl) rfl
theorem q783 : (Jvm.Cond.methodLink "java/lang/StringLatin1" (240 : Nat) ({ cls := "java/lang/StringUTF16", name := "inflate", desc := "([BI[BII)V" } : Jvm.MethodName)) ∈ lw_all := lw_g (lw_at lw_m3 181 rfl) rfl
theorem q1348 : (Jvm.Cond.static ({ cls := "java/lang/StringLatin1", name := "charAt", desc := "([BI)C" } : Jvm.MethodName)) ∈ lw_all := lw_g (lw_at lw_m6 26 rfl) rfl
theorem q1349 : (Jvm.Cond.code ({ cls := "java/lang/StringLatin1", name := "charAt", desc := "([BI)C" } : Jvm.MethodName) prog_36_method_2_code (2 : Nat) (Option.some Jvm.ClassFile.FieldType.char)) ∈ lw_all := lw_g (lw_at lw_m6 27 rfl) rfl
theorem q1350 : (Jvm.Cond.methodLink "java/lang/StringLatin1" (9 : Nat) ({ cls := "java/lang/String", name := "checkIndex", desc := "(II)V" } : Jvm.MethodName)) ∈ lw_all := lw_g (lw_at lw_m6 28 rfl) rfl

abbrev cJ26_stringSize : ByteArray := prog_28_method_13_code
def yJ26_stringSize : MethodName := ⟨RJ26, "stringSize", "(I)I"⟩
def dkwJ26_stringSize_1 : List UInt8 := [164, 0, 7, 29, 27, 96, 172, 16, 10, 28, 104, 61, 132, 3, 1, 167, 255, 233, 16, 10, 27, 96, 172]
abbrev dktJ26_stringSize_1 : List UInt8 := dkwJ26_stringSize_1 ++ []
def dkwJ26_stringSize_0 : List UInt8 := [4, 60, 26, 155, 0, 8, 3, 60, 26, 116, 59, 16, 246, 61, 4, 62, 29, 16, 10, 162, 0, 23, 26, 28]
abbrev dktJ26_stringSize_0 : List UInt8 := dkwJ26_stringSize_0 ++ dktJ26_stringSize_1
theorem dksJ26_stringSize_0 : cJ26_stringSize.data.toList.drop 0 = dktJ26_stringSize_0 := by decide +kernel
theorem dksJ26_stringSize_1 : cJ26_stringSize.data.toList.drop 24 = dktJ26_stringSize_1 := dk_seg dksJ26_stringSize_0 24 rfl rfl
theorem dJ26_stringSize_0 : decode cJ26_stringSize 0 = .ok (.iconst 1, 1) := dk_4 (dk_at dksJ26_stringSize_0 0 rfl rfl)
theorem dJ26_stringSize_1 : decode cJ26_stringSize 1 = .ok (.istore_n 1, 1) := dk_60 (dk_at dksJ26_stringSize_0 1 rfl rfl)
theorem dJ26_stringSize_2 : decode cJ26_stringSize 2 = .ok (.iload_n 0, 1) := dk_26 (dk_at dksJ26_stringSize_0 2 rfl rfl)
theorem dJ26_stringSize_3 : decode cJ26_stringSize 3 = .ok (.ifCond .lt 8, 3) := dk_155 0 8 (dk_at dksJ26_stringSize_0 3 rfl rfl)
theorem dJ26_stringSize_6 : decode cJ26_stringSize 6 = .ok (.iconst 0, 1) := dk_3 (dk_at dksJ26_stringSize_0 6 rfl rfl)
theorem dJ26_stringSize_7 : decode cJ26_stringSize 7 = .ok (.istore_n 1, 1) := dk_60 (dk_at dksJ26_stringSize_0 7 rfl rfl)
theorem dJ26_stringSize_8 : decode cJ26_stringSize 8 = .ok (.iload_n 0, 1) := dk_26 (dk_at dksJ26_stringSize_0 8 rfl rfl)
theorem dJ26_stringSize_9 : decode cJ26_stringSize 9 = .ok (.ineg, 1) := dk_116 (dk_at dksJ26_stringSize_0 9 rfl rfl)
theorem dJ26_stringSize_10 : decode cJ26_stringSize 10 = .ok (.istore_n 0, 1) := dk_59 (dk_at dksJ26_stringSize_0 10 rfl rfl)
theorem dJ26_stringSize_11 : decode cJ26_stringSize 11 = .ok (.bipush (-10), 2) := dk_16 246 (dk_at dksJ26_stringSize_0 11 rfl rfl)
theorem dJ26_stringSize_13 : decode cJ26_stringSize 13 = .ok (.istore_n 2, 1) := dk_61 (dk_at dksJ26_stringSize_0 13 rfl rfl)
theorem dJ26_stringSize_14 : decode cJ26_stringSize 14 = .ok (.iconst 1, 1) := dk_4 (dk_at dksJ26_stringSize_0 14 rfl rfl)
theorem dJ26_stringSize_15 : decode cJ26_stringSize 15 = .ok (.istore_n 3, 1) := dk_62 (dk_at dksJ26_stringSize_0 15 rfl rfl)
theorem dJ26_stringSize_16 : decode cJ26_stringSize 16 = .ok (.iload_n 3, 1) := dk_29 (dk_at dksJ26_stringSize_0 16 rfl rfl)
theorem dJ26_stringSize_17 : decode cJ26_stringSize 17 = .ok (.bipush 10, 2) := dk_16 10 (dk_at dksJ26_stringSize_0 17 rfl rfl)
theorem dJ26_stringSize_19 : decode cJ26_stringSize 19 = .ok (.if_icmp .ge 23, 3) := dk_162 0 23 (dk_at dksJ26_stringSize_0 19 rfl rfl)
theorem dJ26_stringSize_22 : decode cJ26_stringSize 22 = .ok (.iload_n 0, 1) := dk_26 (dk_at dksJ26_stringSize_0 22 rfl rfl)
theorem dJ26_stringSize_23 : decode cJ26_stringSize 23 = .ok (.iload_n 2, 1) := dk_28 (dk_at dksJ26_stringSize_0 23 rfl rfl)
theorem dJ26_stringSize_24 : decode cJ26_stringSize 24 = .ok (.if_icmp .le 7, 3) := dk_164 0 7 (dk_at dksJ26_stringSize_1 0 rfl rfl)
theorem dJ26_stringSize_27 : decode cJ26_stringSize 27 = .ok (.iload_n 3, 1) := dk_29 (dk_at dksJ26_stringSize_1 3 rfl rfl)
theorem dJ26_stringSize_28 : decode cJ26_stringSize 28 = .ok (.iload_n 1, 1) := dk_27 (dk_at dksJ26_stringSize_1 4 rfl rfl)
theorem dJ26_stringSize_29 : decode cJ26_stringSize 29 = .ok (.iadd, 1) := dk_96 (dk_at dksJ26_stringSize_1 5 rfl rfl)
theorem dJ26_stringSize_30 : decode cJ26_stringSize 30 = .ok (.ireturn, 1) := dk_172 (dk_at dksJ26_stringSize_1 6 rfl rfl)
theorem dJ26_stringSize_31 : decode cJ26_stringSize 31 = .ok (.bipush 10, 2) := dk_16 10 (dk_at dksJ26_stringSize_1 7 rfl rfl)
theorem dJ26_stringSize_33 : decode cJ26_stringSize 33 = .ok (.iload_n 2, 1) := dk_28 (dk_at dksJ26_stringSize_1 9 rfl rfl)
theorem dJ26_stringSize_34 : decode cJ26_stringSize 34 = .ok (.imul, 1) := dk_104 (dk_at dksJ26_stringSize_1 10 rfl rfl)
theorem dJ26_stringSize_35 : decode cJ26_stringSize 35 = .ok (.istore_n 2, 1) := dk_61 (dk_at dksJ26_stringSize_1 11 rfl rfl)
theorem dJ26_stringSize_36 : decode cJ26_stringSize 36 = .ok (.iinc 3 1, 3) := dk_132 3 1 (dk_at dksJ26_stringSize_1 12 rfl rfl)
theorem dJ26_stringSize_39 : decode cJ26_stringSize 39 = .ok (.goto (-23), 3) := dk_167 255 233 (dk_at dksJ26_stringSize_1 15 rfl rfl)
theorem dJ26_stringSize_42 : decode cJ26_stringSize 42 = .ok (.bipush 10, 2) := dk_16 10 (dk_at dksJ26_stringSize_1 18 rfl rfl)
theorem dJ26_stringSize_44 : decode cJ26_stringSize 44 = .ok (.iload_n 1, 1) := dk_27 (dk_at dksJ26_stringSize_1 20 rfl rfl)
theorem dJ26_stringSize_45 : decode cJ26_stringSize 45 = .ok (.iadd, 1) := dk_96 (dk_at dksJ26_stringSize_1 21 rfl rfl)
theorem dJ26_stringSize_46 : decode cJ26_stringSize 46 = .ok (.ireturn, 1) := dk_172 (dk_at dksJ26_stringSize_1 22 rfl rfl)
abbrev cJ26_getChars : ByteArray := prog_28_method_12_code
def yJ26_getChars : MethodName := ⟨RJ26, "getChars", "(II[B)I"⟩
def dkwJ26_getChars_5 : List UInt8 := [16, 45, 84, 21, 5, 172]
abbrev dktJ26_getChars_5 : List UInt8 := dkwJ26_getChars_5 ++ []
def dkwJ26_getChars_4 : List UInt8 := [132, 5, 255, 21, 5, 178, 0, 87, 26, 116, 51, 84, 21, 6, 153, 0, 12, 44, 132, 5, 255, 21, 5]
abbrev dktJ26_getChars_4 : List UInt8 := dkwJ26_getChars_4 ++ dktJ26_getChars_5
def dkwJ26_getChars_3 : List UInt8 := [167, 255, 209, 44, 132, 5, 255, 21, 5, 178, 0, 83, 26, 116, 51, 84, 26, 16, 247, 162, 0, 16, 44]
abbrev dktJ26_getChars_3 : List UInt8 := dkwJ26_getChars_3 ++ dktJ26_getChars_4
def dkwJ26_getChars_2 : List UInt8 := [21, 5, 178, 0, 83, 21, 4, 51, 84, 44, 132, 5, 255, 21, 5, 178, 0, 87, 21, 4, 51, 84]
abbrev dktJ26_getChars_2 : List UInt8 := dkwJ26_getChars_2 ++ dktJ26_getChars_3
def dkwJ26_getChars_1 : List UInt8 := [16, 156, 163, 0, 47, 26, 16, 100, 108, 62, 29, 16, 100, 104, 26, 100, 54, 4, 29, 59, 44, 132, 5, 255]
abbrev dktJ26_getChars_1 : List UInt8 := dkwJ26_getChars_1 ++ dktJ26_getChars_2
def dkwJ26_getChars_0 : List UInt8 := [27, 54, 5, 26, 156, 0, 7, 4, 167, 0, 4, 3, 54, 6, 21, 6, 154, 0, 6, 26, 116, 59, 26]
abbrev dktJ26_getChars_0 : List UInt8 := dkwJ26_getChars_0 ++ dktJ26_getChars_1
theorem dksJ26_getChars_0 : cJ26_getChars.data.toList.drop 0 = dktJ26_getChars_0 := by decide +kernel
theorem dksJ26_getChars_1 : cJ26_getChars.data.toList.drop 23 = dktJ26_getChars_1 := dk_seg dksJ26_getChars_0 23 rfl rfl
theorem dksJ26_getChars_2 : cJ26_getChars.data.toList.drop 47 = dktJ26_getChars_2 := dk_seg dksJ26_getChars_1 24 rfl rfl
theorem dksJ26_getChars_3 : cJ26_getChars.data.toList.drop 69 = dktJ26_getChars_3 := dk_seg dksJ26_getChars_2 22 rfl rfl
theorem dksJ26_getChars_4 : cJ26_getChars.data.toList.drop 92 = dktJ26_getChars_4 := dk_seg dksJ26_getChars_3 23 rfl rfl
theorem dksJ26_getChars_5 : cJ26_getChars.data.toList.drop 115 = dktJ26_getChars_5 := dk_seg dksJ26_getChars_4 23 rfl rfl
theorem dJ26_getChars_0 : decode cJ26_getChars 0 = .ok (.iload_n 1, 1) := dk_27 (dk_at dksJ26_getChars_0 0 rfl rfl)
theorem dJ26_getChars_1 : decode cJ26_getChars 1 = .ok (.istore 5, 2) := dk_54 5 (dk_at dksJ26_getChars_0 1 rfl rfl)
theorem dJ26_getChars_3 : decode cJ26_getChars 3 = .ok (.iload_n 0, 1) := dk_26 (dk_at dksJ26_getChars_0 3 rfl rfl)
theorem dJ26_getChars_4 : decode cJ26_getChars 4 = .ok (.ifCond .ge 7, 3) := dk_156 0 7 (dk_at dksJ26_getChars_0 4 rfl rfl)
theorem dJ26_getChars_7 : decode cJ26_getChars 7 = .ok (.iconst 1, 1) := dk_4 (dk_at dksJ26_getChars_0 7 rfl rfl)
theorem dJ26_getChars_8 : decode cJ26_getChars 8 = .ok (.goto 4, 3) := dk_167 0 4 (dk_at dksJ26_getChars_0 8 rfl rfl)
theorem dJ26_getChars_11 : decode cJ26_getChars 11 = .ok (.iconst 0, 1) := dk_3 (dk_at dksJ26_getChars_0 11 rfl rfl)
theorem dJ26_getChars_12 : decode cJ26_getChars 12 = .ok (.istore 6, 2) := dk_54 6 (dk_at dksJ26_getChars_0 12 rfl rfl)
theorem dJ26_getChars_14 : decode cJ26_getChars 14 = .ok (.iload 6, 2) := dk_21 6 (dk_at dksJ26_getChars_0 14 rfl rfl)
theorem dJ26_getChars_16 : decode cJ26_getChars 16 = .ok (.ifCond .ne 6, 3) := dk_154 0 6 (dk_at dksJ26_getChars_0 16 rfl rfl)
theorem dJ26_getChars_19 : decode cJ26_getChars 19 = .ok (.iload_n 0, 1) := dk_26 (dk_at dksJ26_getChars_0 19 rfl rfl)
theorem dJ26_getChars_20 : decode cJ26_getChars 20 = .ok (.ineg, 1) := dk_116 (dk_at dksJ26_getChars_0 20 rfl rfl)
theorem dJ26_getChars_21 : decode cJ26_getChars 21 = .ok (.istore_n 0, 1) := dk_59 (dk_at dksJ26_getChars_0 21 rfl rfl)
theorem dJ26_getChars_22 : decode cJ26_getChars 22 = .ok (.iload_n 0, 1) := dk_26 (dk_at dksJ26_getChars_0 22 rfl rfl)
theorem dJ26_getChars_23 : decode cJ26_getChars 23 = .ok (.bipush (-100), 2) := dk_16 156 (dk_at dksJ26_getChars_1 0 rfl rfl)
theorem dJ26_getChars_25 : decode cJ26_getChars 25 = .ok (.if_icmp .gt 47, 3) := dk_163 0 47 (dk_at dksJ26_getChars_1 2 rfl rfl)
theorem dJ26_getChars_28 : decode cJ26_getChars 28 = .ok (.iload_n 0, 1) := dk_26 (dk_at dksJ26_getChars_1 5 rfl rfl)
theorem dJ26_getChars_29 : decode cJ26_getChars 29 = .ok (.bipush 100, 2) := dk_16 100 (dk_at dksJ26_getChars_1 6 rfl rfl)
theorem dJ26_getChars_31 : decode cJ26_getChars 31 = .ok (.idiv, 1) := dk_108 (dk_at dksJ26_getChars_1 8 rfl rfl)
theorem dJ26_getChars_32 : decode cJ26_getChars 32 = .ok (.istore_n 3, 1) := dk_62 (dk_at dksJ26_getChars_1 9 rfl rfl)
theorem dJ26_getChars_33 : decode cJ26_getChars 33 = .ok (.iload_n 3, 1) := dk_29 (dk_at dksJ26_getChars_1 10 rfl rfl)
theorem dJ26_getChars_34 : decode cJ26_getChars 34 = .ok (.bipush 100, 2) := dk_16 100 (dk_at dksJ26_getChars_1 11 rfl rfl)
theorem dJ26_getChars_36 : decode cJ26_getChars 36 = .ok (.imul, 1) := dk_104 (dk_at dksJ26_getChars_1 13 rfl rfl)
theorem dJ26_getChars_37 : decode cJ26_getChars 37 = .ok (.iload_n 0, 1) := dk_26 (dk_at dksJ26_getChars_1 14 rfl rfl)
theorem dJ26_getChars_38 : decode cJ26_getChars 38 = .ok (.isub, 1) := dk_100 (dk_at dksJ26_getChars_1 15 rfl rfl)
theorem dJ26_getChars_39 : decode cJ26_getChars 39 = .ok (.istore 4, 2) := dk_54 4 (dk_at dksJ26_getChars_1 16 rfl rfl)
theorem dJ26_getChars_41 : decode cJ26_getChars 41 = .ok (.iload_n 3, 1) := dk_29 (dk_at dksJ26_getChars_1 18 rfl rfl)
theorem dJ26_getChars_42 : decode cJ26_getChars 42 = .ok (.istore_n 0, 1) := dk_59 (dk_at dksJ26_getChars_1 19 rfl rfl)
theorem dJ26_getChars_43 : decode cJ26_getChars 43 = .ok (.aload_n 2, 1) := dk_44 (dk_at dksJ26_getChars_1 20 rfl rfl)
theorem dJ26_getChars_44 : decode cJ26_getChars 44 = .ok (.iinc 5 (-1), 3) := dk_132 5 255 (dk_at dksJ26_getChars_1 21 rfl rfl)
theorem dJ26_getChars_47 : decode cJ26_getChars 47 = .ok (.iload 5, 2) := dk_21 5 (dk_at dksJ26_getChars_2 0 rfl rfl)
theorem dJ26_getChars_49 : decode cJ26_getChars 49 = .ok (.getstatic 83, 3) := dk_178 0 83 (dk_at dksJ26_getChars_2 2 rfl rfl)
theorem dJ26_getChars_52 : decode cJ26_getChars 52 = .ok (.iload 4, 2) := dk_21 4 (dk_at dksJ26_getChars_2 5 rfl rfl)
theorem dJ26_getChars_54 : decode cJ26_getChars 54 = .ok (.baload, 1) := dk_51 (dk_at dksJ26_getChars_2 7 rfl rfl)
theorem dJ26_getChars_55 : decode cJ26_getChars 55 = .ok (.bastore, 1) := dk_84 (dk_at dksJ26_getChars_2 8 rfl rfl)
theorem dJ26_getChars_56 : decode cJ26_getChars 56 = .ok (.aload_n 2, 1) := dk_44 (dk_at dksJ26_getChars_2 9 rfl rfl)
theorem dJ26_getChars_57 : decode cJ26_getChars 57 = .ok (.iinc 5 (-1), 3) := dk_132 5 255 (dk_at dksJ26_getChars_2 10 rfl rfl)
theorem dJ26_getChars_60 : decode cJ26_getChars 60 = .ok (.iload 5, 2) := dk_21 5 (dk_at dksJ26_getChars_2 13 rfl rfl)
theorem dJ26_getChars_62 : decode cJ26_getChars 62 = .ok (.getstatic 87, 3) := dk_178 0 87 (dk_at dksJ26_getChars_2 15 rfl rfl)
theorem dJ26_getChars_65 : decode cJ26_getChars 65 = .ok (.iload 4, 2) := dk_21 4 (dk_at dksJ26_getChars_2 18 rfl rfl)
theorem dJ26_getChars_67 : decode cJ26_getChars 67 = .ok (.baload, 1) := dk_51 (dk_at dksJ26_getChars_2 20 rfl rfl)
theorem dJ26_getChars_68 : decode cJ26_getChars 68 = .ok (.bastore, 1) := dk_84 (dk_at dksJ26_getChars_2 21 rfl rfl)
theorem dJ26_getChars_69 : decode cJ26_getChars 69 = .ok (.goto (-47), 3) := dk_167 255 209 (dk_at dksJ26_getChars_3 0 rfl rfl)
theorem dJ26_getChars_72 : decode cJ26_getChars 72 = .ok (.aload_n 2, 1) := dk_44 (dk_at dksJ26_getChars_3 3 rfl rfl)
theorem dJ26_getChars_73 : decode cJ26_getChars 73 = .ok (.iinc 5 (-1), 3) := dk_132 5 255 (dk_at dksJ26_getChars_3 4 rfl rfl)
theorem dJ26_getChars_76 : decode cJ26_getChars 76 = .ok (.iload 5, 2) := dk_21 5 (dk_at dksJ26_getChars_3 7 rfl rfl)
theorem dJ26_getChars_78 : decode cJ26_getChars 78 = .ok (.getstatic 83, 3) := dk_178 0 83 (dk_at dksJ26_getChars_3 9 rfl rfl)
theorem dJ26_getChars_81 : decode cJ26_getChars 81 = .ok (.iload_n 0, 1) := dk_26 (dk_at dksJ26_getChars_3 12 rfl rfl)
theorem dJ26_getChars_82 : decode cJ26_getChars 82 = .ok (.ineg, 1) := dk_116 (dk_at dksJ26_getChars_3 13 rfl rfl)
theorem dJ26_getChars_83 : decode cJ26_getChars 83 = .ok (.baload, 1) := dk_51 (dk_at dksJ26_getChars_3 14 rfl rfl)
theorem dJ26_getChars_84 : decode cJ26_getChars 84 = .ok (.bastore, 1) := dk_84 (dk_at dksJ26_getChars_3 15 rfl rfl)
theorem dJ26_getChars_85 : decode cJ26_getChars 85 = .ok (.iload_n 0, 1) := dk_26 (dk_at dksJ26_getChars_3 16 rfl rfl)
theorem dJ26_getChars_86 : decode cJ26_getChars 86 = .ok (.bipush (-9), 2) := dk_16 247 (dk_at dksJ26_getChars_3 17 rfl rfl)
theorem dJ26_getChars_88 : decode cJ26_getChars 88 = .ok (.if_icmp .ge 16, 3) := dk_162 0 16 (dk_at dksJ26_getChars_3 19 rfl rfl)
theorem dJ26_getChars_91 : decode cJ26_getChars 91 = .ok (.aload_n 2, 1) := dk_44 (dk_at dksJ26_getChars_3 22 rfl rfl)
theorem dJ26_getChars_92 : decode cJ26_getChars 92 = .ok (.iinc 5 (-1), 3) := dk_132 5 255 (dk_at dksJ26_getChars_4 0 rfl rfl)
theorem dJ26_getChars_95 : decode cJ26_getChars 95 = .ok (.iload 5, 2) := dk_21 5 (dk_at dksJ26_getChars_4 3 rfl rfl)
theorem dJ26_getChars_97 : decode cJ26_getChars 97 = .ok (.getstatic 87, 3) := dk_178 0 87 (dk_at dksJ26_getChars_4 5 rfl rfl)
theorem dJ26_getChars_100 : decode cJ26_getChars 100 = .ok (.iload_n 0, 1) := dk_26 (dk_at dksJ26_getChars_4 8 rfl rfl)
theorem dJ26_getChars_101 : decode cJ26_getChars 101 = .ok (.ineg, 1) := dk_116 (dk_at dksJ26_getChars_4 9 rfl rfl)
theorem dJ26_getChars_102 : decode cJ26_getChars 102 = .ok (.baload, 1) := dk_51 (dk_at dksJ26_getChars_4 10 rfl rfl)
theorem dJ26_getChars_103 : decode cJ26_getChars 103 = .ok (.bastore, 1) := dk_84 (dk_at dksJ26_getChars_4 11 rfl rfl)
theorem dJ26_getChars_104 : decode cJ26_getChars 104 = .ok (.iload 6, 2) := dk_21 6 (dk_at dksJ26_getChars_4 12 rfl rfl)
theorem dJ26_getChars_106 : decode cJ26_getChars 106 = .ok (.ifCond .eq 12, 3) := dk_153 0 12 (dk_at dksJ26_getChars_4 14 rfl rfl)
theorem dJ26_getChars_109 : decode cJ26_getChars 109 = .ok (.aload_n 2, 1) := dk_44 (dk_at dksJ26_getChars_4 17 rfl rfl)
theorem dJ26_getChars_110 : decode cJ26_getChars 110 = .ok (.iinc 5 (-1), 3) := dk_132 5 255 (dk_at dksJ26_getChars_4 18 rfl rfl)
theorem dJ26_getChars_113 : decode cJ26_getChars 113 = .ok (.iload 5, 2) := dk_21 5 (dk_at dksJ26_getChars_4 21 rfl rfl)
theorem dJ26_getChars_115 : decode cJ26_getChars 115 = .ok (.bipush 45, 2) := dk_16 45 (dk_at dksJ26_getChars_5 0 rfl rfl)
theorem dJ26_getChars_117 : decode cJ26_getChars 117 = .ok (.bastore, 1) := dk_84 (dk_at dksJ26_getChars_5 2 rfl rfl)
theorem dJ26_getChars_118 : decode cJ26_getChars 118 = .ok (.iload 5, 2) := dk_21 5 (dk_at dksJ26_getChars_5 3 rfl rfl)
theorem dJ26_getChars_120 : decode cJ26_getChars 120 = .ok (.ireturn, 1) := dk_172 (dk_at dksJ26_getChars_5 5 rfl rfl)
theorem q158 : (Jvm.Cond.initialized "java/lang/Integer") ∈ lw_all := lw_g (lw_at lw_m1 36 rfl) rfl
theorem q809 : (Jvm.Cond.static ({ cls := "java/lang/Integer", name := "stringSize", desc := "(I)I" } : Jvm.MethodName)) ∈ lw_all := lw_g (lw_at lw_m3 207 rfl) rfl
theorem q810 : (Jvm.Cond.code ({ cls := "java/lang/Integer", name := "stringSize", desc := "(I)I" } : Jvm.MethodName) prog_28_method_13_code (4 : Nat) (Option.some Jvm.ClassFile.FieldType.int)) ∈ lw_all := lw_g (lw_at lw_m3 208 rfl) rfl
theorem q812 : (Jvm.Cond.static ({ cls := "java/lang/Integer", name := "getChars", desc := "(II[B)I" } : Jvm.MethodName)) ∈ lw_all := lw_g (lw_at lw_m3 210 rfl) rfl
theorem q813 : (Jvm.Cond.code ({ cls := "java/lang/Integer", name := "getChars", desc := "(II[B)I" } : Jvm.MethodName) prog_28_method_12_code (7 : Nat) (Option.some Jvm.ClassFile.FieldType.int)) ∈ lw_all := lw_g (lw_at lw_m3 211 rfl) rfl
theorem q814 : (Jvm.Cond.fieldLink "java/lang/Integer" (83 : Nat) "java/lang/Integer" "DigitOnes" "[B") ∈ lw_all := lw_g (lw_at lw_m3 212 rfl) rfl
theorem q815 : (Jvm.Cond.laysStatic "java/lang/Integer" "DigitOnes" "[B") ∈ lw_tbl := lw_at lw_m3 213 rfl
theorem q816 : (Jvm.Cond.fieldLink "java/lang/Integer" (87 : Nat) "java/lang/Integer" "DigitTens" "[B") ∈ lw_all := lw_g (lw_at lw_m3 214 rfl) rfl
theorem q817 : (Jvm.Cond.laysStatic "java/lang/Integer" "DigitTens" "[B") ∈ lw_tbl := lw_at lw_m3 215 rfl

abbrev cJ27_hasNext : ByteArray := prog_44_method_2_code
def yJ27_hasNext : MethodName := ⟨RJ27, "hasNext", "()Z"⟩
def dkwJ27_hasNext_0 : List UInt8 := [42, 180, 0, 13, 42, 180, 0, 1, 182, 0, 28, 159, 0, 7, 4, 167, 0, 4, 3, 172]
abbrev dktJ27_hasNext_0 : List UInt8 := dkwJ27_hasNext_0 ++ []
theorem dksJ27_hasNext_0 : cJ27_hasNext.data.toList.drop 0 = dktJ27_hasNext_0 := by decide +kernel
theorem dJ27_hasNext_0 : decode cJ27_hasNext 0 = .ok (.aload_n 0, 1) := dk_42 (dk_at dksJ27_hasNext_0 0 rfl rfl)
theorem dJ27_hasNext_1 : decode cJ27_hasNext 1 = .ok (.getfield 13, 3) := dk_180 0 13 (dk_at dksJ27_hasNext_0 1 rfl rfl)
theorem dJ27_hasNext_4 : decode cJ27_hasNext 4 = .ok (.aload_n 0, 1) := dk_42 (dk_at dksJ27_hasNext_0 4 rfl rfl)
theorem dJ27_hasNext_5 : decode cJ27_hasNext 5 = .ok (.getfield 1, 3) := dk_180 0 1 (dk_at dksJ27_hasNext_0 5 rfl rfl)
theorem dJ27_hasNext_8 : decode cJ27_hasNext 8 = .ok (.invokevirtual 28, 3) := dk_182 0 28 (dk_at dksJ27_hasNext_0 8 rfl rfl)
theorem dJ27_hasNext_11 : decode cJ27_hasNext 11 = .ok (.if_icmp .eq 7, 3) := dk_159 0 7 (dk_at dksJ27_hasNext_0 11 rfl rfl)
theorem dJ27_hasNext_14 : decode cJ27_hasNext 14 = .ok (.iconst 1, 1) := dk_4 (dk_at dksJ27_hasNext_0 14 rfl rfl)
theorem dJ27_hasNext_15 : decode cJ27_hasNext 15 = .ok (.goto 4, 3) := dk_167 0 4 (dk_at dksJ27_hasNext_0 15 rfl rfl)
theorem dJ27_hasNext_18 : decode cJ27_hasNext 18 = .ok (.iconst 0, 1) := dk_3 (dk_at dksJ27_hasNext_0 18 rfl rfl)
theorem dJ27_hasNext_19 : decode cJ27_hasNext 19 = .ok (.ireturn, 1) := dk_172 (dk_at dksJ27_hasNext_0 19 rfl rfl)
abbrev cJ27_next : ByteArray := prog_44_method_3_code
def yJ27_next : MethodName := ⟨RJ27, "next", "()Ljava/lang/Object;"⟩
def dkwJ27_next_1 : List UInt8 := [27, 4, 96, 181, 0, 13, 44, 176, 76, 42, 182, 0, 32, 187, 0, 41, 89, 43, 183, 0, 43, 191]
abbrev dktJ27_next_1 : List UInt8 := dkwJ27_next_1 ++ []
def dkwJ27_next_0 : List UInt8 := [42, 182, 0, 32, 42, 180, 0, 13, 60, 42, 180, 0, 1, 27, 182, 0, 35, 77, 42, 27, 181, 0, 17, 42]
abbrev dktJ27_next_0 : List UInt8 := dkwJ27_next_0 ++ dktJ27_next_1
theorem dksJ27_next_0 : cJ27_next.data.toList.drop 0 = dktJ27_next_0 := by decide +kernel
theorem dksJ27_next_1 : cJ27_next.data.toList.drop 24 = dktJ27_next_1 := dk_seg dksJ27_next_0 24 rfl rfl
theorem dJ27_next_0 : decode cJ27_next 0 = .ok (.aload_n 0, 1) := dk_42 (dk_at dksJ27_next_0 0 rfl rfl)
theorem dJ27_next_1 : decode cJ27_next 1 = .ok (.invokevirtual 32, 3) := dk_182 0 32 (dk_at dksJ27_next_0 1 rfl rfl)
theorem dJ27_next_4 : decode cJ27_next 4 = .ok (.aload_n 0, 1) := dk_42 (dk_at dksJ27_next_0 4 rfl rfl)
theorem dJ27_next_5 : decode cJ27_next 5 = .ok (.getfield 13, 3) := dk_180 0 13 (dk_at dksJ27_next_0 5 rfl rfl)
theorem dJ27_next_8 : decode cJ27_next 8 = .ok (.istore_n 1, 1) := dk_60 (dk_at dksJ27_next_0 8 rfl rfl)
theorem dJ27_next_9 : decode cJ27_next 9 = .ok (.aload_n 0, 1) := dk_42 (dk_at dksJ27_next_0 9 rfl rfl)
theorem dJ27_next_10 : decode cJ27_next 10 = .ok (.getfield 1, 3) := dk_180 0 1 (dk_at dksJ27_next_0 10 rfl rfl)
theorem dJ27_next_13 : decode cJ27_next 13 = .ok (.iload_n 1, 1) := dk_27 (dk_at dksJ27_next_0 13 rfl rfl)
theorem dJ27_next_14 : decode cJ27_next 14 = .ok (.invokevirtual 35, 3) := dk_182 0 35 (dk_at dksJ27_next_0 14 rfl rfl)
theorem dJ27_next_17 : decode cJ27_next 17 = .ok (.astore_n 2, 1) := dk_77 (dk_at dksJ27_next_0 17 rfl rfl)
theorem dJ27_next_18 : decode cJ27_next 18 = .ok (.aload_n 0, 1) := dk_42 (dk_at dksJ27_next_0 18 rfl rfl)
theorem dJ27_next_19 : decode cJ27_next 19 = .ok (.iload_n 1, 1) := dk_27 (dk_at dksJ27_next_0 19 rfl rfl)
theorem dJ27_next_20 : decode cJ27_next 20 = .ok (.putfield 17, 3) := dk_181 0 17 (dk_at dksJ27_next_0 20 rfl rfl)
theorem dJ27_next_23 : decode cJ27_next 23 = .ok (.aload_n 0, 1) := dk_42 (dk_at dksJ27_next_0 23 rfl rfl)
theorem dJ27_next_24 : decode cJ27_next 24 = .ok (.iload_n 1, 1) := dk_27 (dk_at dksJ27_next_1 0 rfl rfl)
theorem dJ27_next_25 : decode cJ27_next 25 = .ok (.iconst 1, 1) := dk_4 (dk_at dksJ27_next_1 1 rfl rfl)
theorem dJ27_next_26 : decode cJ27_next 26 = .ok (.iadd, 1) := dk_96 (dk_at dksJ27_next_1 2 rfl rfl)
theorem dJ27_next_27 : decode cJ27_next 27 = .ok (.putfield 13, 3) := dk_181 0 13 (dk_at dksJ27_next_1 3 rfl rfl)
theorem dJ27_next_30 : decode cJ27_next 30 = .ok (.aload_n 2, 1) := dk_44 (dk_at dksJ27_next_1 6 rfl rfl)
theorem dJ27_next_31 : decode cJ27_next 31 = .ok (.areturn, 1) := dk_176 (dk_at dksJ27_next_1 7 rfl rfl)
theorem dJ27_next_32 : decode cJ27_next 32 = .ok (.astore_n 1, 1) := dk_76 (dk_at dksJ27_next_1 8 rfl rfl)
theorem dJ27_next_33 : decode cJ27_next 33 = .ok (.aload_n 0, 1) := dk_42 (dk_at dksJ27_next_1 9 rfl rfl)
theorem dJ27_next_34 : decode cJ27_next 34 = .ok (.invokevirtual 32, 3) := dk_182 0 32 (dk_at dksJ27_next_1 10 rfl rfl)
theorem dJ27_next_37 : decode cJ27_next 37 = .ok (.new 41, 3) := dk_187 0 41 (dk_at dksJ27_next_1 13 rfl rfl)
theorem dJ27_next_40 : decode cJ27_next 40 = .ok (.dup, 1) := dk_89 (dk_at dksJ27_next_1 16 rfl rfl)
theorem dJ27_next_41 : decode cJ27_next 41 = .ok (.aload_n 1, 1) := dk_43 (dk_at dksJ27_next_1 17 rfl rfl)
theorem dJ27_next_42 : decode cJ27_next 42 = .ok (.invokespecial 43, 3) := dk_183 0 43 (dk_at dksJ27_next_1 18 rfl rfl)
theorem dJ27_next_45 : decode cJ27_next 45 = .ok (.athrow, 1) := dk_191 (dk_at dksJ27_next_1 21 rfl rfl)
abbrev cJ27_checkForComodification : ByteArray := prog_44_method_5_code
def yJ27_checkForComodification : MethodName := ⟨RJ27, "checkForComodification", "()V"⟩
def dkwJ27_checkForComodification_0 : List UInt8 := [42, 180, 0, 1, 180, 0, 20, 42, 180, 0, 25, 159, 0, 11, 187, 0, 52, 89, 183, 0, 54, 191, 177]
abbrev dktJ27_checkForComodification_0 : List UInt8 := dkwJ27_checkForComodification_0 ++ []
theorem dksJ27_checkForComodification_0 : cJ27_checkForComodification.data.toList.drop 0 = dktJ27_checkForComodification_0 := by decide +kernel
theorem dJ27_checkForComodification_0 : decode cJ27_checkForComodification 0 = .ok (.aload_n 0, 1) := dk_42 (dk_at dksJ27_checkForComodification_0 0 rfl rfl)
theorem dJ27_checkForComodification_1 : decode cJ27_checkForComodification 1 = .ok (.getfield 1, 3) := dk_180 0 1 (dk_at dksJ27_checkForComodification_0 1 rfl rfl)
theorem dJ27_checkForComodification_4 : decode cJ27_checkForComodification 4 = .ok (.getfield 20, 3) := dk_180 0 20 (dk_at dksJ27_checkForComodification_0 4 rfl rfl)
theorem dJ27_checkForComodification_7 : decode cJ27_checkForComodification 7 = .ok (.aload_n 0, 1) := dk_42 (dk_at dksJ27_checkForComodification_0 7 rfl rfl)
theorem dJ27_checkForComodification_8 : decode cJ27_checkForComodification 8 = .ok (.getfield 25, 3) := dk_180 0 25 (dk_at dksJ27_checkForComodification_0 8 rfl rfl)
theorem dJ27_checkForComodification_11 : decode cJ27_checkForComodification 11 = .ok (.if_icmp .eq 11, 3) := dk_159 0 11 (dk_at dksJ27_checkForComodification_0 11 rfl rfl)
theorem dJ27_checkForComodification_14 : decode cJ27_checkForComodification 14 = .ok (.new 52, 3) := dk_187 0 52 (dk_at dksJ27_checkForComodification_0 14 rfl rfl)
theorem dJ27_checkForComodification_17 : decode cJ27_checkForComodification 17 = .ok (.dup, 1) := dk_89 (dk_at dksJ27_checkForComodification_0 17 rfl rfl)
theorem dJ27_checkForComodification_18 : decode cJ27_checkForComodification 18 = .ok (.invokespecial 54, 3) := dk_183 0 54 (dk_at dksJ27_checkForComodification_0 18 rfl rfl)
theorem dJ27_checkForComodification_21 : decode cJ27_checkForComodification 21 = .ok (.athrow, 1) := dk_191 (dk_at dksJ27_checkForComodification_0 21 rfl rfl)
theorem dJ27_checkForComodification_22 : decode cJ27_checkForComodification 22 = .ok (.return_, 1) := dk_177 (dk_at dksJ27_checkForComodification_0 22 rfl rfl)
abbrev cJ27_remove : ByteArray := prog_44_method_4_code
def yJ27_remove : MethodName := ⟨RJ27, "remove", "()V"⟩
def dkwJ27_remove_3 : List UInt8 := [187, 0, 52, 89, 183, 0, 54, 191, 177]
abbrev dktJ27_remove_3 : List UInt8 := dkwJ27_remove_3 ++ []
def dkwJ27_remove_2 : List UInt8 := [100, 181, 0, 13, 42, 2, 181, 0, 17, 42, 42, 180, 0, 1, 180, 0, 20, 181, 0, 25, 167, 0, 12, 76]
abbrev dktJ27_remove_2 : List UInt8 := dkwJ27_remove_2 ++ dktJ27_remove_3
def dkwJ27_remove_1 : List UInt8 := [180, 0, 17, 182, 0, 49, 87, 42, 180, 0, 17, 42, 180, 0, 13, 162, 0, 13, 42, 89, 180, 0, 13, 4]
abbrev dktJ27_remove_1 : List UInt8 := dkwJ27_remove_1 ++ dktJ27_remove_2
def dkwJ27_remove_0 : List UInt8 := [42, 180, 0, 17, 156, 0, 11, 187, 0, 46, 89, 183, 0, 48, 191, 42, 182, 0, 32, 42, 180, 0, 1, 42]
abbrev dktJ27_remove_0 : List UInt8 := dkwJ27_remove_0 ++ dktJ27_remove_1
theorem dksJ27_remove_0 : cJ27_remove.data.toList.drop 0 = dktJ27_remove_0 := by decide +kernel
theorem dksJ27_remove_1 : cJ27_remove.data.toList.drop 24 = dktJ27_remove_1 := dk_seg dksJ27_remove_0 24 rfl rfl
theorem dksJ27_remove_2 : cJ27_remove.data.toList.drop 48 = dktJ27_remove_2 := dk_seg dksJ27_remove_1 24 rfl rfl
theorem dksJ27_remove_3 : cJ27_remove.data.toList.drop 72 = dktJ27_remove_3 := dk_seg dksJ27_remove_2 24 rfl rfl
theorem dJ27_remove_0 : decode cJ27_remove 0 = .ok (.aload_n 0, 1) := dk_42 (dk_at dksJ27_remove_0 0 rfl rfl)
theorem dJ27_remove_1 : decode cJ27_remove 1 = .ok (.getfield 17, 3) := dk_180 0 17 (dk_at dksJ27_remove_0 1 rfl rfl)
theorem dJ27_remove_4 : decode cJ27_remove 4 = .ok (.ifCond .ge 11, 3) := dk_156 0 11 (dk_at dksJ27_remove_0 4 rfl rfl)
theorem dJ27_remove_7 : decode cJ27_remove 7 = .ok (.new 46, 3) := dk_187 0 46 (dk_at dksJ27_remove_0 7 rfl rfl)
theorem dJ27_remove_10 : decode cJ27_remove 10 = .ok (.dup, 1) := dk_89 (dk_at dksJ27_remove_0 10 rfl rfl)
theorem dJ27_remove_11 : decode cJ27_remove 11 = .ok (.invokespecial 48, 3) := dk_183 0 48 (dk_at dksJ27_remove_0 11 rfl rfl)
theorem dJ27_remove_14 : decode cJ27_remove 14 = .ok (.athrow, 1) := dk_191 (dk_at dksJ27_remove_0 14 rfl rfl)
theorem dJ27_remove_15 : decode cJ27_remove 15 = .ok (.aload_n 0, 1) := dk_42 (dk_at dksJ27_remove_0 15 rfl rfl)
theorem dJ27_remove_16 : decode cJ27_remove 16 = .ok (.invokevirtual 32, 3) := dk_182 0 32 (dk_at dksJ27_remove_0 16 rfl rfl)
theorem dJ27_remove_19 : decode cJ27_remove 19 = .ok (.aload_n 0, 1) := dk_42 (dk_at dksJ27_remove_0 19 rfl rfl)
theorem dJ27_remove_20 : decode cJ27_remove 20 = .ok (.getfield 1, 3) := dk_180 0 1 (dk_at dksJ27_remove_0 20 rfl rfl)
theorem dJ27_remove_23 : decode cJ27_remove 23 = .ok (.aload_n 0, 1) := dk_42 (dk_at dksJ27_remove_0 23 rfl rfl)
theorem dJ27_remove_24 : decode cJ27_remove 24 = .ok (.getfield 17, 3) := dk_180 0 17 (dk_at dksJ27_remove_1 0 rfl rfl)
theorem dJ27_remove_27 : decode cJ27_remove 27 = .ok (.invokevirtual 49, 3) := dk_182 0 49 (dk_at dksJ27_remove_1 3 rfl rfl)
theorem dJ27_remove_30 : decode cJ27_remove 30 = .ok (.pop, 1) := dk_87 (dk_at dksJ27_remove_1 6 rfl rfl)
theorem dJ27_remove_31 : decode cJ27_remove 31 = .ok (.aload_n 0, 1) := dk_42 (dk_at dksJ27_remove_1 7 rfl rfl)
theorem dJ27_remove_32 : decode cJ27_remove 32 = .ok (.getfield 17, 3) := dk_180 0 17 (dk_at dksJ27_remove_1 8 rfl rfl)
theorem dJ27_remove_35 : decode cJ27_remove 35 = .ok (.aload_n 0, 1) := dk_42 (dk_at dksJ27_remove_1 11 rfl rfl)
theorem dJ27_remove_36 : decode cJ27_remove 36 = .ok (.getfield 13, 3) := dk_180 0 13 (dk_at dksJ27_remove_1 12 rfl rfl)
theorem dJ27_remove_39 : decode cJ27_remove 39 = .ok (.if_icmp .ge 13, 3) := dk_162 0 13 (dk_at dksJ27_remove_1 15 rfl rfl)
theorem dJ27_remove_42 : decode cJ27_remove 42 = .ok (.aload_n 0, 1) := dk_42 (dk_at dksJ27_remove_1 18 rfl rfl)
theorem dJ27_remove_43 : decode cJ27_remove 43 = .ok (.dup, 1) := dk_89 (dk_at dksJ27_remove_1 19 rfl rfl)
theorem dJ27_remove_44 : decode cJ27_remove 44 = .ok (.getfield 13, 3) := dk_180 0 13 (dk_at dksJ27_remove_1 20 rfl rfl)
theorem dJ27_remove_47 : decode cJ27_remove 47 = .ok (.iconst 1, 1) := dk_4 (dk_at dksJ27_remove_1 23 rfl rfl)
theorem dJ27_remove_48 : decode cJ27_remove 48 = .ok (.isub, 1) := dk_100 (dk_at dksJ27_remove_2 0 rfl rfl)
theorem dJ27_remove_49 : decode cJ27_remove 49 = .ok (.putfield 13, 3) := dk_181 0 13 (dk_at dksJ27_remove_2 1 rfl rfl)
theorem dJ27_remove_52 : decode cJ27_remove 52 = .ok (.aload_n 0, 1) := dk_42 (dk_at dksJ27_remove_2 4 rfl rfl)
theorem dJ27_remove_53 : decode cJ27_remove 53 = .ok (.iconst (-1), 1) := dk_2 (dk_at dksJ27_remove_2 5 rfl rfl)
theorem dJ27_remove_54 : decode cJ27_remove 54 = .ok (.putfield 17, 3) := dk_181 0 17 (dk_at dksJ27_remove_2 6 rfl rfl)
theorem dJ27_remove_57 : decode cJ27_remove 57 = .ok (.aload_n 0, 1) := dk_42 (dk_at dksJ27_remove_2 9 rfl rfl)
theorem dJ27_remove_58 : decode cJ27_remove 58 = .ok (.aload_n 0, 1) := dk_42 (dk_at dksJ27_remove_2 10 rfl rfl)
theorem dJ27_remove_59 : decode cJ27_remove 59 = .ok (.getfield 1, 3) := dk_180 0 1 (dk_at dksJ27_remove_2 11 rfl rfl)
theorem dJ27_remove_62 : decode cJ27_remove 62 = .ok (.getfield 20, 3) := dk_180 0 20 (dk_at dksJ27_remove_2 14 rfl rfl)
theorem dJ27_remove_65 : decode cJ27_remove 65 = .ok (.putfield 25, 3) := dk_181 0 25 (dk_at dksJ27_remove_2 17 rfl rfl)
theorem dJ27_remove_68 : decode cJ27_remove 68 = .ok (.goto 12, 3) := dk_167 0 12 (dk_at dksJ27_remove_2 20 rfl rfl)
theorem dJ27_remove_71 : decode cJ27_remove 71 = .ok (.astore_n 1, 1) := dk_76 (dk_at dksJ27_remove_2 23 rfl rfl)
theorem dJ27_remove_72 : decode cJ27_remove 72 = .ok (.new 52, 3) := dk_187 0 52 (dk_at dksJ27_remove_3 0 rfl rfl)
theorem dJ27_remove_75 : decode cJ27_remove 75 = .ok (.dup, 1) := dk_89 (dk_at dksJ27_remove_3 3 rfl rfl)
theorem dJ27_remove_76 : decode cJ27_remove 76 = .ok (.invokespecial 54, 3) := dk_183 0 54 (dk_at dksJ27_remove_3 4 rfl rfl)
theorem dJ27_remove_79 : decode cJ27_remove 79 = .ok (.athrow, 1) := dk_191 (dk_at dksJ27_remove_3 7 rfl rfl)
theorem dJ27_remove_80 : decode cJ27_remove 80 = .ok (.return_, 1) := dk_177 (dk_at dksJ27_remove_3 8 rfl rfl)
theorem q159 : (Jvm.Cond.initialized "java/util/AbstractList$Itr") ∈ lw_all := lw_g (lw_at lw_m1 37 rfl) rfl
theorem q374 : (Jvm.Cond.fieldLink "java/util/AbstractList$Itr" (20 : Nat) "java/util/AbstractList" "modCount" "I") ∈ lw_all := lw_g (lw_at lw_m2 12 rfl) rfl
theorem q979 : (Jvm.Cond.instanceMethod ({ cls := "java/util/AbstractList$Itr", name := "hasNext", desc := "()Z" } : Jvm.MethodName)) ∈ lw_all := lw_g (lw_at lw_m4 137 rfl) rfl
theorem q980 : (Jvm.Cond.publicMethod ({ cls := "java/util/AbstractList$Itr", name := "hasNext", desc := "()Z" } : Jvm.MethodName)) ∈ lw_tbl := lw_at lw_m4 138 rfl
theorem q981 : (Jvm.Cond.code ({ cls := "java/util/AbstractList$Itr", name := "hasNext", desc := "()Z" } : Jvm.MethodName) prog_44_method_2_code (1 : Nat) (Option.some Jvm.ClassFile.FieldType.boolean)) ∈ lw_all := lw_g (lw_at lw_m4 139 rfl) rfl
theorem q982 : (Jvm.Cond.methodLink "java/util/AbstractList$Itr" (28 : Nat) ({ cls := "java/util/AbstractList", name := "size", desc := "()I" } : Jvm.MethodName)) ∈ lw_all := lw_g (lw_at lw_m4 140 rfl) rfl
theorem q1004 : (Jvm.Cond.instanceMethod ({ cls := "java/util/AbstractList$Itr", name := "next", desc := "()Ljava/lang/Object;" } : Jvm.MethodName)) ∈ lw_all := lw_g (lw_at lw_m4 162 rfl) rfl
theorem q1005 : (Jvm.Cond.publicMethod ({ cls := "java/util/AbstractList$Itr", name := "next", desc := "()Ljava/lang/Object;" } : Jvm.MethodName)) ∈ lw_tbl := lw_at lw_m4 163 rfl
theorem q1006 : (Jvm.Cond.codeWith ({ cls := "java/util/AbstractList$Itr", name := "next", desc := "()Ljava/lang/Object;" } : Jvm.MethodName) prog_44_method_3_code (3 : Nat) (Option.some (Jvm.ClassFile.FieldType.object "java/lang/Object")) [((4 : Nat), (31 : Nat), (32 : Nat), (39 : Nat))]) ∈ lw_all := lw_g (lw_at lw_m4 164 rfl) rfl
theorem q1007 : (Jvm.Cond.methodLink "java/util/AbstractList$Itr" (32 : Nat) ({ cls := "java/util/AbstractList$Itr", name := "checkForComodification", desc := "()V" } : Jvm.MethodName)) ∈ lw_all := lw_g (lw_at lw_m4 165 rfl) rfl
theorem q1008 : (Jvm.Cond.instanceMethod ({ cls := "java/util/AbstractList$Itr", name := "checkForComodification", desc := "()V" } : Jvm.MethodName)) ∈ lw_all := lw_g (lw_at lw_m4 166 rfl) rfl
theorem q1009 : (Jvm.Cond.sameMethod "java/util/AbstractList$Itr" "java/util/AbstractList$Itr" "checkForComodification" "()V") ∈ lw_all := lw_g (lw_at lw_m4 167 rfl) rfl
theorem q1011 : (Jvm.Cond.code ({ cls := "java/util/AbstractList$Itr", name := "checkForComodification", desc := "()V" } : Jvm.MethodName) prog_44_method_5_code (1 : Nat) (Option.none : Option Jvm.ClassFile.FieldType)) ∈ lw_all := lw_g (lw_at lw_m4 169 rfl) rfl
theorem q1012 : (Jvm.Cond.methodLink "java/util/AbstractList$Itr" (35 : Nat) ({ cls := "java/util/AbstractList", name := "get", desc := "(I)Ljava/lang/Object;" } : Jvm.MethodName)) ∈ lw_all := lw_g (lw_at lw_m4 170 rfl) rfl
theorem q1016 : (Jvm.Cond.classLink "java/util/AbstractList$Itr" (41 : Nat) "java/util/NoSuchElementException") ∈ lw_all := lw_g (lw_at lw_m4 174 rfl) rfl
theorem q1025 : (Jvm.Cond.methodLink "java/util/AbstractList$Itr" (43 : Nat) ({ cls := "java/util/NoSuchElementException", name := "<init>", desc := "(Ljava/lang/Throwable;)V" } : Jvm.MethodName)) ∈ lw_all := lw_g (lw_at lw_m4 183 rfl) rfl
theorem q1987 : (Jvm.Cond.instanceMethod ({ cls := "java/util/AbstractList$Itr", name := "remove", desc := "()V" } : Jvm.MethodName)) ∈ lw_all := lw_g (lw_at lw_m8 185 rfl) rfl
theorem q1988 : (Jvm.Cond.publicMethod ({ cls := "java/util/AbstractList$Itr", name := "remove", desc := "()V" } : Jvm.MethodName)) ∈ lw_tbl := lw_at lw_m8 186 rfl
theorem q1989 : (Jvm.Cond.codeWith ({ cls := "java/util/AbstractList$Itr", name := "remove", desc := "()V" } : Jvm.MethodName) prog_44_method_4_code (2 : Nat) (Option.none : Option Jvm.ClassFile.FieldType) [((19 : Nat), (68 : Nat), (71 : Nat), (39 : Nat))]) ∈ lw_all := lw_g (lw_at lw_m8 187 rfl) rfl
theorem q1990 : (Jvm.Cond.classLink "java/util/AbstractList$Itr" (46 : Nat) "java/lang/IllegalStateException") ∈ lw_all := lw_g (lw_at lw_m8 188 rfl) rfl
theorem q1999 : (Jvm.Cond.methodLink "java/util/AbstractList$Itr" (48 : Nat) ({ cls := "java/lang/IllegalStateException", name := "<init>", desc := "()V" } : Jvm.MethodName)) ∈ lw_all := lw_g (lw_at lw_m8 197 rfl) rfl
theorem q2005 : (Jvm.Cond.methodLink "java/util/AbstractList$Itr" (49 : Nat) ({ cls := "java/util/AbstractList", name := "remove", desc := "(I)Ljava/lang/Object;" } : Jvm.MethodName)) ∈ lw_all := lw_g (lw_at lw_m8 203 rfl) rfl
theorem q2016 : (Jvm.Cond.classLink "java/util/AbstractList$Itr" (52 : Nat) "java/util/ConcurrentModificationException") ∈ lw_all := lw_g (lw_at lw_m8 214 rfl) rfl
theorem q2025 : (Jvm.Cond.methodLink "java/util/AbstractList$Itr" (54 : Nat) ({ cls := "java/util/ConcurrentModificationException", name := "<init>", desc := "()V" } : Jvm.MethodName)) ∈ lw_all := lw_g (lw_at lw_m8 223 rfl) rfl
theorem q3009 : (Jvm.Cond.fieldLink "java/util/AbstractList$Itr" (1 : Nat) "java/util/AbstractList$Itr" "this$0" "Ljava/util/AbstractList;") ∈ lw_all := lw_g (lw_at lw_m13 7 rfl) rfl
theorem q3010 : (Jvm.Cond.fieldLink "java/util/AbstractList$Itr" (13 : Nat) "java/util/AbstractList$Itr" "cursor" "I") ∈ lw_all := lw_g (lw_at lw_m13 8 rfl) rfl
theorem q3011 : (Jvm.Cond.fieldLink "java/util/AbstractList$Itr" (17 : Nat) "java/util/AbstractList$Itr" "lastRet" "I") ∈ lw_all := lw_g (lw_at lw_m13 9 rfl) rfl
theorem q3012 : (Jvm.Cond.fieldLink "java/util/AbstractList$Itr" (25 : Nat) "java/util/AbstractList$Itr" "expectedModCount" "I") ∈ lw_all := lw_g (lw_at lw_m13 10 rfl) rfl

abbrev cJ28_init : ByteArray := prog_63_method_1_code
def yJ28_init : MethodName := ⟨RJ28, "<init>", "(Ljava/util/LinkedList;I)V"⟩
def dkwJ28_init_1 : List UInt8 := [180, 0, 22, 160, 0, 7, 1, 167, 0, 8, 43, 28, 182, 0, 25, 181, 0, 29, 42, 28, 181, 0, 33, 177]
abbrev dktJ28_init_1 : List UInt8 := dkwJ28_init_1 ++ []
def dkwJ28_init_0 : List UInt8 := [42, 43, 181, 0, 1, 42, 183, 0, 7, 42, 42, 180, 0, 1, 180, 0, 13, 181, 0, 19, 42, 28, 43]
abbrev dktJ28_init_0 : List UInt8 := dkwJ28_init_0 ++ dktJ28_init_1
theorem dksJ28_init_0 : cJ28_init.data.toList.drop 0 = dktJ28_init_0 := by decide +kernel
theorem dksJ28_init_1 : cJ28_init.data.toList.drop 23 = dktJ28_init_1 := dk_seg dksJ28_init_0 23 rfl rfl
theorem dJ28_init_0 : decode cJ28_init 0 = .ok (.aload_n 0, 1) := dk_42 (dk_at dksJ28_init_0 0 rfl rfl)
theorem dJ28_init_1 : decode cJ28_init 1 = .ok (.aload_n 1, 1) := dk_43 (dk_at dksJ28_init_0 1 rfl rfl)
theorem dJ28_init_2 : decode cJ28_init 2 = .ok (.putfield 1, 3) := dk_181 0 1 (dk_at dksJ28_init_0 2 rfl rfl)
theorem dJ28_init_5 : decode cJ28_init 5 = .ok (.aload_n 0, 1) := dk_42 (dk_at dksJ28_init_0 5 rfl rfl)
theorem dJ28_init_6 : decode cJ28_init 6 = .ok (.invokespecial 7, 3) := dk_183 0 7 (dk_at dksJ28_init_0 6 rfl rfl)
theorem dJ28_init_9 : decode cJ28_init 9 = .ok (.aload_n 0, 1) := dk_42 (dk_at dksJ28_init_0 9 rfl rfl)
theorem dJ28_init_10 : decode cJ28_init 10 = .ok (.aload_n 0, 1) := dk_42 (dk_at dksJ28_init_0 10 rfl rfl)
theorem dJ28_init_11 : decode cJ28_init 11 = .ok (.getfield 1, 3) := dk_180 0 1 (dk_at dksJ28_init_0 11 rfl rfl)
theorem dJ28_init_14 : decode cJ28_init 14 = .ok (.getfield 13, 3) := dk_180 0 13 (dk_at dksJ28_init_0 14 rfl rfl)
theorem dJ28_init_17 : decode cJ28_init 17 = .ok (.putfield 19, 3) := dk_181 0 19 (dk_at dksJ28_init_0 17 rfl rfl)
theorem dJ28_init_20 : decode cJ28_init 20 = .ok (.aload_n 0, 1) := dk_42 (dk_at dksJ28_init_0 20 rfl rfl)
theorem dJ28_init_21 : decode cJ28_init 21 = .ok (.iload_n 2, 1) := dk_28 (dk_at dksJ28_init_0 21 rfl rfl)
theorem dJ28_init_22 : decode cJ28_init 22 = .ok (.aload_n 1, 1) := dk_43 (dk_at dksJ28_init_0 22 rfl rfl)
theorem dJ28_init_23 : decode cJ28_init 23 = .ok (.getfield 22, 3) := dk_180 0 22 (dk_at dksJ28_init_1 0 rfl rfl)
theorem dJ28_init_26 : decode cJ28_init 26 = .ok (.if_icmp .ne 7, 3) := dk_160 0 7 (dk_at dksJ28_init_1 3 rfl rfl)
theorem dJ28_init_29 : decode cJ28_init 29 = .ok (.aconst_null, 1) := dk_1 (dk_at dksJ28_init_1 6 rfl rfl)
theorem dJ28_init_30 : decode cJ28_init 30 = .ok (.goto 8, 3) := dk_167 0 8 (dk_at dksJ28_init_1 7 rfl rfl)
theorem dJ28_init_33 : decode cJ28_init 33 = .ok (.aload_n 1, 1) := dk_43 (dk_at dksJ28_init_1 10 rfl rfl)
theorem dJ28_init_34 : decode cJ28_init 34 = .ok (.iload_n 2, 1) := dk_28 (dk_at dksJ28_init_1 11 rfl rfl)
theorem dJ28_init_35 : decode cJ28_init 35 = .ok (.invokevirtual 25, 3) := dk_182 0 25 (dk_at dksJ28_init_1 12 rfl rfl)
theorem dJ28_init_38 : decode cJ28_init 38 = .ok (.putfield 29, 3) := dk_181 0 29 (dk_at dksJ28_init_1 15 rfl rfl)
theorem dJ28_init_41 : decode cJ28_init 41 = .ok (.aload_n 0, 1) := dk_42 (dk_at dksJ28_init_1 18 rfl rfl)
theorem dJ28_init_42 : decode cJ28_init 42 = .ok (.iload_n 2, 1) := dk_28 (dk_at dksJ28_init_1 19 rfl rfl)
theorem dJ28_init_43 : decode cJ28_init 43 = .ok (.putfield 33, 3) := dk_181 0 33 (dk_at dksJ28_init_1 20 rfl rfl)
theorem dJ28_init_46 : decode cJ28_init 46 = .ok (.return_, 1) := dk_177 (dk_at dksJ28_init_1 23 rfl rfl)
abbrev cJ28_hasNext : ByteArray := prog_63_method_2_code
def yJ28_hasNext : MethodName := ⟨RJ28, "hasNext", "()Z"⟩
def dkwJ28_hasNext_0 : List UInt8 := [42, 180, 0, 33, 42, 180, 0, 1, 180, 0, 22, 162, 0, 7, 4, 167, 0, 4, 3, 172]
abbrev dktJ28_hasNext_0 : List UInt8 := dkwJ28_hasNext_0 ++ []
theorem dksJ28_hasNext_0 : cJ28_hasNext.data.toList.drop 0 = dktJ28_hasNext_0 := by decide +kernel
theorem dJ28_hasNext_0 : decode cJ28_hasNext 0 = .ok (.aload_n 0, 1) := dk_42 (dk_at dksJ28_hasNext_0 0 rfl rfl)
theorem dJ28_hasNext_1 : decode cJ28_hasNext 1 = .ok (.getfield 33, 3) := dk_180 0 33 (dk_at dksJ28_hasNext_0 1 rfl rfl)
theorem dJ28_hasNext_4 : decode cJ28_hasNext 4 = .ok (.aload_n 0, 1) := dk_42 (dk_at dksJ28_hasNext_0 4 rfl rfl)
theorem dJ28_hasNext_5 : decode cJ28_hasNext 5 = .ok (.getfield 1, 3) := dk_180 0 1 (dk_at dksJ28_hasNext_0 5 rfl rfl)
theorem dJ28_hasNext_8 : decode cJ28_hasNext 8 = .ok (.getfield 22, 3) := dk_180 0 22 (dk_at dksJ28_hasNext_0 8 rfl rfl)
theorem dJ28_hasNext_11 : decode cJ28_hasNext 11 = .ok (.if_icmp .ge 7, 3) := dk_162 0 7 (dk_at dksJ28_hasNext_0 11 rfl rfl)
theorem dJ28_hasNext_14 : decode cJ28_hasNext 14 = .ok (.iconst 1, 1) := dk_4 (dk_at dksJ28_hasNext_0 14 rfl rfl)
theorem dJ28_hasNext_15 : decode cJ28_hasNext 15 = .ok (.goto 4, 3) := dk_167 0 4 (dk_at dksJ28_hasNext_0 15 rfl rfl)
theorem dJ28_hasNext_18 : decode cJ28_hasNext 18 = .ok (.iconst 0, 1) := dk_3 (dk_at dksJ28_hasNext_0 18 rfl rfl)
theorem dJ28_hasNext_19 : decode cJ28_hasNext 19 = .ok (.ireturn, 1) := dk_172 (dk_at dksJ28_hasNext_0 19 rfl rfl)
abbrev cJ28_next : ByteArray := prog_63_method_3_code
def yJ28_next : MethodName := ⟨RJ28, "next", "()Ljava/lang/Object;"⟩
def dkwJ28_next_2 : List UInt8 := [42, 180, 0, 46, 180, 0, 52, 176]
abbrev dktJ28_next_2 : List UInt8 := dkwJ28_next_2 ++ []
def dkwJ28_next_1 : List UInt8 := [181, 0, 46, 42, 42, 180, 0, 29, 180, 0, 49, 181, 0, 29, 42, 89, 180, 0, 33, 4, 96, 181, 0, 33]
abbrev dktJ28_next_1 : List UInt8 := dkwJ28_next_1 ++ dktJ28_next_2
def dkwJ28_next_0 : List UInt8 := [42, 182, 0, 36, 42, 182, 0, 39, 154, 0, 11, 187, 0, 43, 89, 183, 0, 45, 191, 42, 42, 180, 0, 29]
abbrev dktJ28_next_0 : List UInt8 := dkwJ28_next_0 ++ dktJ28_next_1
theorem dksJ28_next_0 : cJ28_next.data.toList.drop 0 = dktJ28_next_0 := by decide +kernel
theorem dksJ28_next_1 : cJ28_next.data.toList.drop 24 = dktJ28_next_1 := dk_seg dksJ28_next_0 24 rfl rfl
theorem dksJ28_next_2 : cJ28_next.data.toList.drop 48 = dktJ28_next_2 := dk_seg dksJ28_next_1 24 rfl rfl
theorem dJ28_next_0 : decode cJ28_next 0 = .ok (.aload_n 0, 1) := dk_42 (dk_at dksJ28_next_0 0 rfl rfl)
theorem dJ28_next_1 : decode cJ28_next 1 = .ok (.invokevirtual 36, 3) := dk_182 0 36 (dk_at dksJ28_next_0 1 rfl rfl)
theorem dJ28_next_4 : decode cJ28_next 4 = .ok (.aload_n 0, 1) := dk_42 (dk_at dksJ28_next_0 4 rfl rfl)
theorem dJ28_next_5 : decode cJ28_next 5 = .ok (.invokevirtual 39, 3) := dk_182 0 39 (dk_at dksJ28_next_0 5 rfl rfl)
theorem dJ28_next_8 : decode cJ28_next 8 = .ok (.ifCond .ne 11, 3) := dk_154 0 11 (dk_at dksJ28_next_0 8 rfl rfl)
theorem dJ28_next_11 : decode cJ28_next 11 = .ok (.new 43, 3) := dk_187 0 43 (dk_at dksJ28_next_0 11 rfl rfl)
theorem dJ28_next_14 : decode cJ28_next 14 = .ok (.dup, 1) := dk_89 (dk_at dksJ28_next_0 14 rfl rfl)
theorem dJ28_next_15 : decode cJ28_next 15 = .ok (.invokespecial 45, 3) := dk_183 0 45 (dk_at dksJ28_next_0 15 rfl rfl)
theorem dJ28_next_18 : decode cJ28_next 18 = .ok (.athrow, 1) := dk_191 (dk_at dksJ28_next_0 18 rfl rfl)
theorem dJ28_next_19 : decode cJ28_next 19 = .ok (.aload_n 0, 1) := dk_42 (dk_at dksJ28_next_0 19 rfl rfl)
theorem dJ28_next_20 : decode cJ28_next 20 = .ok (.aload_n 0, 1) := dk_42 (dk_at dksJ28_next_0 20 rfl rfl)
theorem dJ28_next_21 : decode cJ28_next 21 = .ok (.getfield 29, 3) := dk_180 0 29 (dk_at dksJ28_next_0 21 rfl rfl)
theorem dJ28_next_24 : decode cJ28_next 24 = .ok (.putfield 46, 3) := dk_181 0 46 (dk_at dksJ28_next_1 0 rfl rfl)
theorem dJ28_next_27 : decode cJ28_next 27 = .ok (.aload_n 0, 1) := dk_42 (dk_at dksJ28_next_1 3 rfl rfl)
theorem dJ28_next_28 : decode cJ28_next 28 = .ok (.aload_n 0, 1) := dk_42 (dk_at dksJ28_next_1 4 rfl rfl)
theorem dJ28_next_29 : decode cJ28_next 29 = .ok (.getfield 29, 3) := dk_180 0 29 (dk_at dksJ28_next_1 5 rfl rfl)
theorem dJ28_next_32 : decode cJ28_next 32 = .ok (.getfield 49, 3) := dk_180 0 49 (dk_at dksJ28_next_1 8 rfl rfl)
theorem dJ28_next_35 : decode cJ28_next 35 = .ok (.putfield 29, 3) := dk_181 0 29 (dk_at dksJ28_next_1 11 rfl rfl)
theorem dJ28_next_38 : decode cJ28_next 38 = .ok (.aload_n 0, 1) := dk_42 (dk_at dksJ28_next_1 14 rfl rfl)
theorem dJ28_next_39 : decode cJ28_next 39 = .ok (.dup, 1) := dk_89 (dk_at dksJ28_next_1 15 rfl rfl)
theorem dJ28_next_40 : decode cJ28_next 40 = .ok (.getfield 33, 3) := dk_180 0 33 (dk_at dksJ28_next_1 16 rfl rfl)
theorem dJ28_next_43 : decode cJ28_next 43 = .ok (.iconst 1, 1) := dk_4 (dk_at dksJ28_next_1 19 rfl rfl)
theorem dJ28_next_44 : decode cJ28_next 44 = .ok (.iadd, 1) := dk_96 (dk_at dksJ28_next_1 20 rfl rfl)
theorem dJ28_next_45 : decode cJ28_next 45 = .ok (.putfield 33, 3) := dk_181 0 33 (dk_at dksJ28_next_1 21 rfl rfl)
theorem dJ28_next_48 : decode cJ28_next 48 = .ok (.aload_n 0, 1) := dk_42 (dk_at dksJ28_next_2 0 rfl rfl)
theorem dJ28_next_49 : decode cJ28_next 49 = .ok (.getfield 46, 3) := dk_180 0 46 (dk_at dksJ28_next_2 1 rfl rfl)
theorem dJ28_next_52 : decode cJ28_next 52 = .ok (.getfield 52, 3) := dk_180 0 52 (dk_at dksJ28_next_2 4 rfl rfl)
theorem dJ28_next_55 : decode cJ28_next 55 = .ok (.areturn, 1) := dk_176 (dk_at dksJ28_next_2 7 rfl rfl)
abbrev cJ28_checkForComodification : ByteArray := prog_63_method_12_code
def yJ28_checkForComodification : MethodName := ⟨RJ28, "checkForComodification", "()V"⟩
def dkwJ28_checkForComodification_0 : List UInt8 := [42, 180, 0, 1, 180, 0, 13, 42, 180, 0, 19, 159, 0, 11, 187, 0, 91, 89, 183, 0, 93, 191, 177]
abbrev dktJ28_checkForComodification_0 : List UInt8 := dkwJ28_checkForComodification_0 ++ []
theorem dksJ28_checkForComodification_0 : cJ28_checkForComodification.data.toList.drop 0 = dktJ28_checkForComodification_0 := by decide +kernel
theorem dJ28_checkForComodification_0 : decode cJ28_checkForComodification 0 = .ok (.aload_n 0, 1) := dk_42 (dk_at dksJ28_checkForComodification_0 0 rfl rfl)
theorem dJ28_checkForComodification_1 : decode cJ28_checkForComodification 1 = .ok (.getfield 1, 3) := dk_180 0 1 (dk_at dksJ28_checkForComodification_0 1 rfl rfl)
theorem dJ28_checkForComodification_4 : decode cJ28_checkForComodification 4 = .ok (.getfield 13, 3) := dk_180 0 13 (dk_at dksJ28_checkForComodification_0 4 rfl rfl)
theorem dJ28_checkForComodification_7 : decode cJ28_checkForComodification 7 = .ok (.aload_n 0, 1) := dk_42 (dk_at dksJ28_checkForComodification_0 7 rfl rfl)
theorem dJ28_checkForComodification_8 : decode cJ28_checkForComodification 8 = .ok (.getfield 19, 3) := dk_180 0 19 (dk_at dksJ28_checkForComodification_0 8 rfl rfl)
theorem dJ28_checkForComodification_11 : decode cJ28_checkForComodification 11 = .ok (.if_icmp .eq 11, 3) := dk_159 0 11 (dk_at dksJ28_checkForComodification_0 11 rfl rfl)
theorem dJ28_checkForComodification_14 : decode cJ28_checkForComodification 14 = .ok (.new 91, 3) := dk_187 0 91 (dk_at dksJ28_checkForComodification_0 14 rfl rfl)
theorem dJ28_checkForComodification_17 : decode cJ28_checkForComodification 17 = .ok (.dup, 1) := dk_89 (dk_at dksJ28_checkForComodification_0 17 rfl rfl)
theorem dJ28_checkForComodification_18 : decode cJ28_checkForComodification 18 = .ok (.invokespecial 93, 3) := dk_183 0 93 (dk_at dksJ28_checkForComodification_0 18 rfl rfl)
theorem dJ28_checkForComodification_21 : decode cJ28_checkForComodification 21 = .ok (.athrow, 1) := dk_191 (dk_at dksJ28_checkForComodification_0 21 rfl rfl)
theorem dJ28_checkForComodification_22 : decode cJ28_checkForComodification 22 = .ok (.return_, 1) := dk_177 (dk_at dksJ28_checkForComodification_0 22 rfl rfl)
abbrev cJ28_remove : ByteArray := prog_63_method_8_code
def yJ28_remove : MethodName := ⟨RJ28, "remove", "()V"⟩
def dkwJ28_remove_3 : List UInt8 := [181, 0, 46, 42, 89, 180, 0, 19, 4, 96, 181, 0, 19, 177]
abbrev dktJ28_remove_3 : List UInt8 := dkwJ28_remove_3 ++ []
def dkwJ28_remove_2 : List UInt8 := [166, 0, 11, 42, 43, 181, 0, 29, 167, 0, 13, 42, 89, 180, 0, 33, 4, 100, 181, 0, 33, 42, 1]
abbrev dktJ28_remove_2 : List UInt8 := dkwJ28_remove_2 ++ dktJ28_remove_3
def dkwJ28_remove_1 : List UInt8 := [180, 0, 49, 76, 42, 180, 0, 1, 42, 180, 0, 46, 182, 0, 68, 87, 42, 180, 0, 29, 42, 180, 0, 46]
abbrev dktJ28_remove_1 : List UInt8 := dkwJ28_remove_1 ++ dktJ28_remove_2
def dkwJ28_remove_0 : List UInt8 := [42, 182, 0, 36, 42, 180, 0, 46, 199, 0, 11, 187, 0, 65, 89, 183, 0, 67, 191, 42, 180, 0, 46]
abbrev dktJ28_remove_0 : List UInt8 := dkwJ28_remove_0 ++ dktJ28_remove_1
theorem dksJ28_remove_0 : cJ28_remove.data.toList.drop 0 = dktJ28_remove_0 := by decide +kernel
theorem dksJ28_remove_1 : cJ28_remove.data.toList.drop 23 = dktJ28_remove_1 := dk_seg dksJ28_remove_0 23 rfl rfl
theorem dksJ28_remove_2 : cJ28_remove.data.toList.drop 47 = dktJ28_remove_2 := dk_seg dksJ28_remove_1 24 rfl rfl
theorem dksJ28_remove_3 : cJ28_remove.data.toList.drop 70 = dktJ28_remove_3 := dk_seg dksJ28_remove_2 23 rfl rfl
theorem dJ28_remove_0 : decode cJ28_remove 0 = .ok (.aload_n 0, 1) := dk_42 (dk_at dksJ28_remove_0 0 rfl rfl)
theorem dJ28_remove_1 : decode cJ28_remove 1 = .ok (.invokevirtual 36, 3) := dk_182 0 36 (dk_at dksJ28_remove_0 1 rfl rfl)
theorem dJ28_remove_4 : decode cJ28_remove 4 = .ok (.aload_n 0, 1) := dk_42 (dk_at dksJ28_remove_0 4 rfl rfl)
theorem dJ28_remove_5 : decode cJ28_remove 5 = .ok (.getfield 46, 3) := dk_180 0 46 (dk_at dksJ28_remove_0 5 rfl rfl)
theorem dJ28_remove_8 : decode cJ28_remove 8 = .ok (.ifnonnull 11, 3) := dk_199 0 11 (dk_at dksJ28_remove_0 8 rfl rfl)
theorem dJ28_remove_11 : decode cJ28_remove 11 = .ok (.new 65, 3) := dk_187 0 65 (dk_at dksJ28_remove_0 11 rfl rfl)
theorem dJ28_remove_14 : decode cJ28_remove 14 = .ok (.dup, 1) := dk_89 (dk_at dksJ28_remove_0 14 rfl rfl)
theorem dJ28_remove_15 : decode cJ28_remove 15 = .ok (.invokespecial 67, 3) := dk_183 0 67 (dk_at dksJ28_remove_0 15 rfl rfl)
theorem dJ28_remove_18 : decode cJ28_remove 18 = .ok (.athrow, 1) := dk_191 (dk_at dksJ28_remove_0 18 rfl rfl)
theorem dJ28_remove_19 : decode cJ28_remove 19 = .ok (.aload_n 0, 1) := dk_42 (dk_at dksJ28_remove_0 19 rfl rfl)
theorem dJ28_remove_20 : decode cJ28_remove 20 = .ok (.getfield 46, 3) := dk_180 0 46 (dk_at dksJ28_remove_0 20 rfl rfl)
theorem dJ28_remove_23 : decode cJ28_remove 23 = .ok (.getfield 49, 3) := dk_180 0 49 (dk_at dksJ28_remove_1 0 rfl rfl)
theorem dJ28_remove_26 : decode cJ28_remove 26 = .ok (.astore_n 1, 1) := dk_76 (dk_at dksJ28_remove_1 3 rfl rfl)
theorem dJ28_remove_27 : decode cJ28_remove 27 = .ok (.aload_n 0, 1) := dk_42 (dk_at dksJ28_remove_1 4 rfl rfl)
theorem dJ28_remove_28 : decode cJ28_remove 28 = .ok (.getfield 1, 3) := dk_180 0 1 (dk_at dksJ28_remove_1 5 rfl rfl)
theorem dJ28_remove_31 : decode cJ28_remove 31 = .ok (.aload_n 0, 1) := dk_42 (dk_at dksJ28_remove_1 8 rfl rfl)
theorem dJ28_remove_32 : decode cJ28_remove 32 = .ok (.getfield 46, 3) := dk_180 0 46 (dk_at dksJ28_remove_1 9 rfl rfl)
theorem dJ28_remove_35 : decode cJ28_remove 35 = .ok (.invokevirtual 68, 3) := dk_182 0 68 (dk_at dksJ28_remove_1 12 rfl rfl)
theorem dJ28_remove_38 : decode cJ28_remove 38 = .ok (.pop, 1) := dk_87 (dk_at dksJ28_remove_1 15 rfl rfl)
theorem dJ28_remove_39 : decode cJ28_remove 39 = .ok (.aload_n 0, 1) := dk_42 (dk_at dksJ28_remove_1 16 rfl rfl)
theorem dJ28_remove_40 : decode cJ28_remove 40 = .ok (.getfield 29, 3) := dk_180 0 29 (dk_at dksJ28_remove_1 17 rfl rfl)
theorem dJ28_remove_43 : decode cJ28_remove 43 = .ok (.aload_n 0, 1) := dk_42 (dk_at dksJ28_remove_1 20 rfl rfl)
theorem dJ28_remove_44 : decode cJ28_remove 44 = .ok (.getfield 46, 3) := dk_180 0 46 (dk_at dksJ28_remove_1 21 rfl rfl)
theorem dJ28_remove_47 : decode cJ28_remove 47 = .ok (.if_acmp .ne 11, 3) := dk_166 0 11 (dk_at dksJ28_remove_2 0 rfl rfl)
theorem dJ28_remove_50 : decode cJ28_remove 50 = .ok (.aload_n 0, 1) := dk_42 (dk_at dksJ28_remove_2 3 rfl rfl)
theorem dJ28_remove_51 : decode cJ28_remove 51 = .ok (.aload_n 1, 1) := dk_43 (dk_at dksJ28_remove_2 4 rfl rfl)
theorem dJ28_remove_52 : decode cJ28_remove 52 = .ok (.putfield 29, 3) := dk_181 0 29 (dk_at dksJ28_remove_2 5 rfl rfl)
theorem dJ28_remove_55 : decode cJ28_remove 55 = .ok (.goto 13, 3) := dk_167 0 13 (dk_at dksJ28_remove_2 8 rfl rfl)
theorem dJ28_remove_58 : decode cJ28_remove 58 = .ok (.aload_n 0, 1) := dk_42 (dk_at dksJ28_remove_2 11 rfl rfl)
theorem dJ28_remove_59 : decode cJ28_remove 59 = .ok (.dup, 1) := dk_89 (dk_at dksJ28_remove_2 12 rfl rfl)
theorem dJ28_remove_60 : decode cJ28_remove 60 = .ok (.getfield 33, 3) := dk_180 0 33 (dk_at dksJ28_remove_2 13 rfl rfl)
theorem dJ28_remove_63 : decode cJ28_remove 63 = .ok (.iconst 1, 1) := dk_4 (dk_at dksJ28_remove_2 16 rfl rfl)
theorem dJ28_remove_64 : decode cJ28_remove 64 = .ok (.isub, 1) := dk_100 (dk_at dksJ28_remove_2 17 rfl rfl)
theorem dJ28_remove_65 : decode cJ28_remove 65 = .ok (.putfield 33, 3) := dk_181 0 33 (dk_at dksJ28_remove_2 18 rfl rfl)
theorem dJ28_remove_68 : decode cJ28_remove 68 = .ok (.aload_n 0, 1) := dk_42 (dk_at dksJ28_remove_2 21 rfl rfl)
theorem dJ28_remove_69 : decode cJ28_remove 69 = .ok (.aconst_null, 1) := dk_1 (dk_at dksJ28_remove_2 22 rfl rfl)
theorem dJ28_remove_70 : decode cJ28_remove 70 = .ok (.putfield 46, 3) := dk_181 0 46 (dk_at dksJ28_remove_3 0 rfl rfl)
theorem dJ28_remove_73 : decode cJ28_remove 73 = .ok (.aload_n 0, 1) := dk_42 (dk_at dksJ28_remove_3 3 rfl rfl)
theorem dJ28_remove_74 : decode cJ28_remove 74 = .ok (.dup, 1) := dk_89 (dk_at dksJ28_remove_3 4 rfl rfl)
theorem dJ28_remove_75 : decode cJ28_remove 75 = .ok (.getfield 19, 3) := dk_180 0 19 (dk_at dksJ28_remove_3 5 rfl rfl)
theorem dJ28_remove_78 : decode cJ28_remove 78 = .ok (.iconst 1, 1) := dk_4 (dk_at dksJ28_remove_3 8 rfl rfl)
theorem dJ28_remove_79 : decode cJ28_remove 79 = .ok (.iadd, 1) := dk_96 (dk_at dksJ28_remove_3 9 rfl rfl)
theorem dJ28_remove_80 : decode cJ28_remove 80 = .ok (.putfield 19, 3) := dk_181 0 19 (dk_at dksJ28_remove_3 10 rfl rfl)
theorem dJ28_remove_83 : decode cJ28_remove 83 = .ok (.return_, 1) := dk_177 (dk_at dksJ28_remove_3 13 rfl rfl)
theorem q161 : (Jvm.Cond.initialized "java/util/LinkedList$ListItr") ∈ lw_all := lw_g (lw_at lw_m1 39 rfl) rfl
theorem q244 : (Jvm.Cond.selects "java/util/LinkedList$ListItr" ({ cls := "java/lang/Object", name := "getClass", desc := "()Ljava/lang/Class;" } : Jvm.MethodName) ({ cls := "java/lang/Object", name := "getClass", desc := "()Ljava/lang/Class;" } : Jvm.MethodName)) ∈ lw_all := lw_g (lw_at lw_m1 122 rfl) rfl
theorem q368 : (Jvm.Cond.fieldLink "java/util/LinkedList$ListItr" (22 : Nat) "java/util/LinkedList" "size" "I") ∈ lw_all := lw_g (lw_at lw_m2 6 rfl) rfl
theorem q372 : (Jvm.Cond.fieldLink "java/util/LinkedList$ListItr" (13 : Nat) "java/util/LinkedList" "modCount" "I") ∈ lw_all := lw_g (lw_at lw_m2 10 rfl) rfl
theorem q949 : (Jvm.Cond.instantiable "java/util/LinkedList$ListItr" (5 : Nat)) ∈ lw_all := lw_g (lw_at lw_m4 107 rfl) rfl
theorem q951 : (Jvm.Cond.instanceMethod ({ cls := "java/util/LinkedList$ListItr", name := "<init>", desc := "(Ljava/util/LinkedList;I)V" } : Jvm.MethodName)) ∈ lw_all := lw_g (lw_at lw_m4 109 rfl) rfl
theorem q952 : (Jvm.Cond.code ({ cls := "java/util/LinkedList$ListItr", name := "<init>", desc := "(Ljava/util/LinkedList;I)V" } : Jvm.MethodName) prog_63_method_1_code (3 : Nat) (Option.none : Option Jvm.ClassFile.FieldType)) ∈ lw_all := lw_g (lw_at lw_m4 110 rfl) rfl
theorem q953 : (Jvm.Cond.methodLink "java/util/LinkedList$ListItr" (7 : Nat) ({ cls := "java/lang/Object", name := "<init>", desc := "()V" } : Jvm.MethodName)) ∈ lw_all := lw_g (lw_at lw_m4 111 rfl) rfl
theorem q954 : (Jvm.Cond.methodLink "java/util/LinkedList$ListItr" (25 : Nat) ({ cls := "java/util/LinkedList", name := "node", desc := "(I)Ljava/util/LinkedList$Node;" } : Jvm.MethodName)) ∈ lw_all := lw_g (lw_at lw_m4 112 rfl) rfl
theorem q955 : (Jvm.Cond.fieldLink "java/util/LinkedList$ListItr" (46 : Nat) "java/util/LinkedList$ListItr" "lastReturned" "Ljava/util/LinkedList$Node;") ∈ lw_all := lw_g (lw_at lw_m4 113 rfl) rfl
theorem q956 : (Jvm.Cond.fieldLink "java/util/LinkedList$ListItr" (29 : Nat) "java/util/LinkedList$ListItr" "next" "Ljava/util/LinkedList$Node;") ∈ lw_all := lw_g (lw_at lw_m4 114 rfl) rfl
theorem q957 : (Jvm.Cond.fieldLink "java/util/LinkedList$ListItr" (33 : Nat) "java/util/LinkedList$ListItr" "nextIndex" "I") ∈ lw_all := lw_g (lw_at lw_m4 115 rfl) rfl
theorem q958 : (Jvm.Cond.fieldLink "java/util/LinkedList$ListItr" (19 : Nat) "java/util/LinkedList$ListItr" "expectedModCount" "I") ∈ lw_all := lw_g (lw_at lw_m4 116 rfl) rfl
theorem q959 : (Jvm.Cond.fieldLink "java/util/LinkedList$ListItr" (1 : Nat) "java/util/LinkedList$ListItr" "this$0" "Ljava/util/LinkedList;") ∈ lw_all := lw_g (lw_at lw_m4 117 rfl) rfl
theorem q960 : (Jvm.Cond.lays "java/util/LinkedList$ListItr" "java/util/LinkedList$ListItr" "lastReturned" "Ljava/util/LinkedList$Node;") ∈ lw_all := lw_g (lw_at lw_m4 118 rfl) rfl
theorem q961 : (Jvm.Cond.soleField "java/util/LinkedList$ListItr" "lastReturned") ∈ lw_all := lw_g (lw_at lw_m4 119 rfl) rfl
theorem q962 : (Jvm.Cond.lays "java/util/LinkedList$ListItr" "java/util/LinkedList$ListItr" "next" "Ljava/util/LinkedList$Node;") ∈ lw_all := lw_g (lw_at lw_m4 120 rfl) rfl
theorem q963 : (Jvm.Cond.soleField "java/util/LinkedList$ListItr" "next") ∈ lw_all := lw_g (lw_at lw_m4 121 rfl) rfl
theorem q964 : (Jvm.Cond.lays "java/util/LinkedList$ListItr" "java/util/LinkedList$ListItr" "nextIndex" "I") ∈ lw_all := lw_g (lw_at lw_m4 122 rfl) rfl
theorem q965 : (Jvm.Cond.soleField "java/util/LinkedList$ListItr" "nextIndex") ∈ lw_all := lw_g (lw_at lw_m4 123 rfl) rfl
theorem q966 : (Jvm.Cond.lays "java/util/LinkedList$ListItr" "java/util/LinkedList$ListItr" "expectedModCount" "I") ∈ lw_all := lw_g (lw_at lw_m4 124 rfl) rfl
theorem q967 : (Jvm.Cond.soleField "java/util/LinkedList$ListItr" "expectedModCount") ∈ lw_all := lw_g (lw_at lw_m4 125 rfl) rfl
theorem q968 : (Jvm.Cond.laysFinal "java/util/LinkedList$ListItr" "java/util/LinkedList$ListItr" "this$0" "Ljava/util/LinkedList;") ∈ lw_all := lw_g (lw_at lw_m4 126 rfl) rfl
theorem q969 : (Jvm.Cond.soleField "java/util/LinkedList$ListItr" "this$0") ∈ lw_all := lw_g (lw_at lw_m4 127 rfl) rfl
theorem q970 : (Jvm.Cond.superclass "java/util/LinkedList$ListItr" "java/lang/Object") ∈ lw_all := lw_g (lw_at lw_m4 128 rfl) rfl
theorem q992 : (Jvm.Cond.castable "java/util/LinkedList$ListItr" "java/util/Iterator") ∈ lw_tbl := lw_at lw_m4 150 rfl
theorem q993 : (Jvm.Cond.selects "java/util/LinkedList$ListItr" ({ cls := "java/util/Iterator", name := "hasNext", desc := "()Z" } : Jvm.MethodName) ({ cls := "java/util/LinkedList$ListItr", name := "hasNext", desc := "()Z" } : Jvm.MethodName)) ∈ lw_all := lw_g (lw_at lw_m4 151 rfl) rfl
theorem q994 : (Jvm.Cond.unhidden "java/util/LinkedList$ListItr" "hasNext" "()Z") ∈ lw_tbl := lw_at lw_m4 152 rfl
theorem q995 : (Jvm.Cond.instanceMethod ({ cls := "java/util/LinkedList$ListItr", name := "hasNext", desc := "()Z" } : Jvm.MethodName)) ∈ lw_all := lw_g (lw_at lw_m4 153 rfl) rfl
theorem q996 : (Jvm.Cond.publicMethod ({ cls := "java/util/LinkedList$ListItr", name := "hasNext", desc := "()Z" } : Jvm.MethodName)) ∈ lw_tbl := lw_at lw_m4 154 rfl
theorem q997 : (Jvm.Cond.code ({ cls := "java/util/LinkedList$ListItr", name := "hasNext", desc := "()Z" } : Jvm.MethodName) prog_63_method_2_code (1 : Nat) (Option.some Jvm.ClassFile.FieldType.boolean)) ∈ lw_all := lw_g (lw_at lw_m4 155 rfl) rfl
theorem q1097 : (Jvm.Cond.selects "java/util/LinkedList$ListItr" ({ cls := "java/util/Iterator", name := "next", desc := "()Ljava/lang/Object;" } : Jvm.MethodName) ({ cls := "java/util/LinkedList$ListItr", name := "next", desc := "()Ljava/lang/Object;" } : Jvm.MethodName)) ∈ lw_all := lw_g (lw_at lw_m5 15 rfl) rfl
theorem q1098 : (Jvm.Cond.unhidden "java/util/LinkedList$ListItr" "next" "()Ljava/lang/Object;") ∈ lw_tbl := lw_at lw_m5 16 rfl
theorem q1099 : (Jvm.Cond.instanceMethod ({ cls := "java/util/LinkedList$ListItr", name := "next", desc := "()Ljava/lang/Object;" } : Jvm.MethodName)) ∈ lw_all := lw_g (lw_at lw_m5 17 rfl) rfl
theorem q1100 : (Jvm.Cond.publicMethod ({ cls := "java/util/LinkedList$ListItr", name := "next", desc := "()Ljava/lang/Object;" } : Jvm.MethodName)) ∈ lw_tbl := lw_at lw_m5 18 rfl
theorem q1101 : (Jvm.Cond.code ({ cls := "java/util/LinkedList$ListItr", name := "next", desc := "()Ljava/lang/Object;" } : Jvm.MethodName) prog_63_method_3_code (1 : Nat) (Option.some (Jvm.ClassFile.FieldType.object "java/lang/Object"))) ∈ lw_all := lw_g (lw_at lw_m5 19 rfl) rfl
theorem q1102 : (Jvm.Cond.methodLink "java/util/LinkedList$ListItr" (36 : Nat) ({ cls := "java/util/LinkedList$ListItr", name := "checkForComodification", desc := "()V" } : Jvm.MethodName)) ∈ lw_all := lw_g (lw_at lw_m5 20 rfl) rfl
theorem q1103 : (Jvm.Cond.instanceMethod ({ cls := "java/util/LinkedList$ListItr", name := "checkForComodification", desc := "()V" } : Jvm.MethodName)) ∈ lw_all := lw_g (lw_at lw_m5 21 rfl) rfl
theorem q1104 : (Jvm.Cond.selects "java/util/LinkedList$ListItr" ({ cls := "java/util/LinkedList$ListItr", name := "checkForComodification", desc := "()V" } : Jvm.MethodName) ({ cls := "java/util/LinkedList$ListItr", name := "checkForComodification", desc := "()V" } : Jvm.MethodName)) ∈ lw_all := lw_g (lw_at lw_m5 22 rfl) rfl
theorem q1105 : (Jvm.Cond.code ({ cls := "java/util/LinkedList$ListItr", name := "checkForComodification", desc := "()V" } : Jvm.MethodName) prog_63_method_12_code (1 : Nat) (Option.none : Option Jvm.ClassFile.FieldType)) ∈ lw_all := lw_g (lw_at lw_m5 23 rfl) rfl
theorem q1106 : (Jvm.Cond.methodLink "java/util/LinkedList$ListItr" (39 : Nat) ({ cls := "java/util/LinkedList$ListItr", name := "hasNext", desc := "()Z" } : Jvm.MethodName)) ∈ lw_all := lw_g (lw_at lw_m5 24 rfl) rfl
theorem q1107 : (Jvm.Cond.classLink "java/util/LinkedList$ListItr" (43 : Nat) "java/util/NoSuchElementException") ∈ lw_all := lw_g (lw_at lw_m5 25 rfl) rfl
theorem q1108 : (Jvm.Cond.methodLink "java/util/LinkedList$ListItr" (45 : Nat) ({ cls := "java/util/NoSuchElementException", name := "<init>", desc := "()V" } : Jvm.MethodName)) ∈ lw_all := lw_g (lw_at lw_m5 26 rfl) rfl
theorem q1230 : (Jvm.Cond.fieldLink "java/util/LinkedList$ListItr" (52 : Nat) "java/util/LinkedList$Node" "item" "Ljava/lang/Object;") ∈ lw_all := lw_g (lw_at lw_m5 148 rfl) rfl
theorem q1233 : (Jvm.Cond.fieldLink "java/util/LinkedList$ListItr" (49 : Nat) "java/util/LinkedList$Node" "next" "Ljava/util/LinkedList$Node;") ∈ lw_all := lw_g (lw_at lw_m5 151 rfl) rfl
theorem q2045 : (Jvm.Cond.selects "java/util/LinkedList$ListItr" ({ cls := "java/util/Iterator", name := "remove", desc := "()V" } : Jvm.MethodName) ({ cls := "java/util/LinkedList$ListItr", name := "remove", desc := "()V" } : Jvm.MethodName)) ∈ lw_all := lw_g (lw_at lw_m9 3 rfl) rfl
theorem q2046 : (Jvm.Cond.unhidden "java/util/LinkedList$ListItr" "remove" "()V") ∈ lw_tbl := lw_at lw_m9 4 rfl
theorem q2047 : (Jvm.Cond.instanceMethod ({ cls := "java/util/LinkedList$ListItr", name := "remove", desc := "()V" } : Jvm.MethodName)) ∈ lw_all := lw_g (lw_at lw_m9 5 rfl) rfl
theorem q2048 : (Jvm.Cond.publicMethod ({ cls := "java/util/LinkedList$ListItr", name := "remove", desc := "()V" } : Jvm.MethodName)) ∈ lw_tbl := lw_at lw_m9 6 rfl
theorem q2049 : (Jvm.Cond.code ({ cls := "java/util/LinkedList$ListItr", name := "remove", desc := "()V" } : Jvm.MethodName) prog_63_method_8_code (2 : Nat) (Option.none : Option Jvm.ClassFile.FieldType)) ∈ lw_all := lw_g (lw_at lw_m9 7 rfl) rfl
theorem q2050 : (Jvm.Cond.methodLink "java/util/LinkedList$ListItr" (68 : Nat) ({ cls := "java/util/LinkedList", name := "unlink", desc := "(Ljava/util/LinkedList$Node;)Ljava/lang/Object;" } : Jvm.MethodName)) ∈ lw_all := lw_g (lw_at lw_m9 8 rfl) rfl
theorem q2957 : (Jvm.Cond.selects "java/util/LinkedList$ListItr" ({ cls := "java/util/LinkedList$ListItr", name := "hasNext", desc := "()Z" } : Jvm.MethodName) ({ cls := "java/util/LinkedList$ListItr", name := "hasNext", desc := "()Z" } : Jvm.MethodName)) ∈ lw_all := lw_g (lw_at lw_m12 195 rfl) rfl
theorem q2982 : (Jvm.Cond.castable "java/util/LinkedList$ListItr" "java/lang/Object") ∈ lw_tbl := lw_at lw_m12 220 rfl

abbrev cJ29_init : ByteArray := prog_67_method_3_code
def yJ29_init : MethodName := ⟨RJ29, "<init>", "(Ljava/lang/Throwable;)V"⟩
def dkwJ29_init_0 : List UInt8 := [42, 43, 183, 0, 10, 177]
abbrev dktJ29_init_0 : List UInt8 := dkwJ29_init_0 ++ []
theorem dksJ29_init_0 : cJ29_init.data.toList.drop 0 = dktJ29_init_0 := by decide +kernel
theorem dJ29_init_0 : decode cJ29_init 0 = .ok (.aload_n 0, 1) := dk_42 (dk_at dksJ29_init_0 0 rfl rfl)
theorem dJ29_init_1 : decode cJ29_init 1 = .ok (.aload_n 1, 1) := dk_43 (dk_at dksJ29_init_0 1 rfl rfl)
theorem dJ29_init_2 : decode cJ29_init 2 = .ok (.invokespecial 10, 3) := dk_183 0 10 (dk_at dksJ29_init_0 2 rfl rfl)
theorem dJ29_init_5 : decode cJ29_init 5 = .ok (.return_, 1) := dk_177 (dk_at dksJ29_init_0 5 rfl rfl)
abbrev cJ29_init_2 : ByteArray := prog_67_method_1_code
def yJ29_init_2 : MethodName := ⟨RJ29, "<init>", "()V"⟩
theorem dJ29_init_2_0 : decode cJ29_init_2 0 = .ok (.aload_n 0, 1) := by decide +kernel
theorem dJ29_init_2_1 : decode cJ29_init_2 1 = .ok (.invokespecial 1, 3) := by decide +kernel
theorem dJ29_init_2_4 : decode cJ29_init_2 4 = .ok (.return_, 1) := by decide +kernel
theorem q162 : (Jvm.Cond.initialized "java/util/NoSuchElementException") ∈ lw_all := lw_g (lw_at lw_m1 40 rfl) rfl
theorem q246 : (Jvm.Cond.selects "java/util/NoSuchElementException" ({ cls := "java/lang/Object", name := "getClass", desc := "()Ljava/lang/Class;" } : Jvm.MethodName) ({ cls := "java/lang/Object", name := "getClass", desc := "()Ljava/lang/Class;" } : Jvm.MethodName)) ∈ lw_all := lw_g (lw_at lw_m1 124 rfl) rfl
theorem q640 : (Jvm.Cond.selects "java/util/NoSuchElementException" ({ cls := "java/lang/Throwable", name := "fillInStackTrace", desc := "()Ljava/lang/Throwable;" } : Jvm.MethodName) ({ cls := "java/lang/Throwable", name := "fillInStackTrace", desc := "()Ljava/lang/Throwable;" } : Jvm.MethodName)) ∈ lw_all := lw_g (lw_at lw_m3 38 rfl) rfl
theorem q1017 : (Jvm.Cond.instantiable "java/util/NoSuchElementException" (6 : Nat)) ∈ lw_all := lw_g (lw_at lw_m4 175 rfl) rfl
theorem q1018 : (Jvm.Cond.castable "java/util/NoSuchElementException" "java/util/NoSuchElementException") ∈ lw_tbl := lw_at lw_m4 176 rfl
theorem q1019 : (Jvm.Cond.selects "java/util/NoSuchElementException" ({ cls := "java/lang/Throwable", name := "fillInStackTrace", desc := "(I)Ljava/lang/Throwable;" } : Jvm.MethodName) ({ cls := "java/lang/Throwable", name := "fillInStackTrace", desc := "(I)Ljava/lang/Throwable;" } : Jvm.MethodName)) ∈ lw_all := lw_g (lw_at lw_m4 177 rfl) rfl
theorem q1020 : (Jvm.Cond.lays "java/util/NoSuchElementException" "java/lang/Throwable" "cause" "Ljava/lang/Throwable;") ∈ lw_all := lw_g (lw_at lw_m4 178 rfl) rfl
theorem q1021 : (Jvm.Cond.lays "java/util/NoSuchElementException" "java/lang/Throwable" "stackTrace" "[Ljava/lang/StackTraceElement;") ∈ lw_all := lw_g (lw_at lw_m4 179 rfl) rfl
theorem q1022 : (Jvm.Cond.lays "java/util/NoSuchElementException" "java/lang/Throwable" "suppressedExceptions" "Ljava/util/List;") ∈ lw_all := lw_g (lw_at lw_m4 180 rfl) rfl
theorem q1023 : (Jvm.Cond.lays "java/util/NoSuchElementException" "java/lang/Throwable" "detailMessage" "Ljava/lang/String;") ∈ lw_all := lw_g (lw_at lw_m4 181 rfl) rfl
theorem q1024 : (Jvm.Cond.lays "java/util/NoSuchElementException" "java/lang/Throwable" "backtrace" "Ljava/lang/Object;") ∈ lw_all := lw_g (lw_at lw_m4 182 rfl) rfl
theorem q1026 : (Jvm.Cond.instanceMethod ({ cls := "java/util/NoSuchElementException", name := "<init>", desc := "(Ljava/lang/Throwable;)V" } : Jvm.MethodName)) ∈ lw_all := lw_g (lw_at lw_m4 184 rfl) rfl
theorem q1027 : (Jvm.Cond.code ({ cls := "java/util/NoSuchElementException", name := "<init>", desc := "(Ljava/lang/Throwable;)V" } : Jvm.MethodName) prog_67_method_3_code (2 : Nat) (Option.none : Option Jvm.ClassFile.FieldType)) ∈ lw_all := lw_g (lw_at lw_m4 185 rfl) rfl
theorem q1028 : (Jvm.Cond.methodLink "java/util/NoSuchElementException" (10 : Nat) ({ cls := "java/lang/RuntimeException", name := "<init>", desc := "(Ljava/lang/Throwable;)V" } : Jvm.MethodName)) ∈ lw_all := lw_g (lw_at lw_m4 186 rfl) rfl
theorem q1045 : (Jvm.Cond.selects "java/util/NoSuchElementException" ({ cls := "java/lang/Throwable", name := "toString", desc := "()Ljava/lang/String;" } : Jvm.MethodName) ({ cls := "java/lang/Throwable", name := "toString", desc := "()Ljava/lang/String;" } : Jvm.MethodName)) ∈ lw_all := lw_g (lw_at lw_m4 203 rfl) rfl
theorem q1056 : (Jvm.Cond.selects "java/util/NoSuchElementException" ({ cls := "java/lang/Throwable", name := "getLocalizedMessage", desc := "()Ljava/lang/String;" } : Jvm.MethodName) ({ cls := "java/lang/Throwable", name := "getLocalizedMessage", desc := "()Ljava/lang/String;" } : Jvm.MethodName)) ∈ lw_all := lw_g (lw_at lw_m4 214 rfl) rfl
theorem q1066 : (Jvm.Cond.selects "java/util/NoSuchElementException" ({ cls := "java/lang/Throwable", name := "getMessage", desc := "()Ljava/lang/String;" } : Jvm.MethodName) ({ cls := "java/lang/Throwable", name := "getMessage", desc := "()Ljava/lang/String;" } : Jvm.MethodName)) ∈ lw_all := lw_g (lw_at lw_m4 224 rfl) rfl
theorem q1073 : (Jvm.Cond.lays "java/util/NoSuchElementException" "java/lang/Throwable" "depth" "I") ∈ lw_all := lw_g (lw_at lw_m4 231 rfl) rfl
theorem q1074 : (Jvm.Cond.superclass "java/util/NoSuchElementException" "java/lang/RuntimeException") ∈ lw_all := lw_g (lw_at lw_m4 232 rfl) rfl
theorem q1082 : (Jvm.Cond.instanceMethod ({ cls := "java/util/NoSuchElementException", name := "<init>", desc := "()V" } : Jvm.MethodName)) ∈ lw_all := lw_g (lw_at lw_m5 0 rfl) rfl
theorem q1083 : (Jvm.Cond.code ({ cls := "java/util/NoSuchElementException", name := "<init>", desc := "()V" } : Jvm.MethodName) prog_67_method_1_code (1 : Nat) (Option.none : Option Jvm.ClassFile.FieldType)) ∈ lw_all := lw_g (lw_at lw_m5 1 rfl) rfl
theorem q1084 : (Jvm.Cond.methodLink "java/util/NoSuchElementException" (1 : Nat) ({ cls := "java/lang/RuntimeException", name := "<init>", desc := "()V" } : Jvm.MethodName)) ∈ lw_all := lw_g (lw_at lw_m5 2 rfl) rfl
theorem q2983 : (Jvm.Cond.castable "java/util/NoSuchElementException" "java/lang/Object") ∈ lw_tbl := lw_at lw_m12 221 rfl

abbrev cJ30_init : ByteArray := prog_64_method_1_code
def yJ30_init : MethodName := ⟨RJ30, "<init>", "(Ljava/util/LinkedList$Node;Ljava/lang/Object;Ljava/util/LinkedList$Node;)V"⟩
def dkwJ30_init_0 : List UInt8 := [42, 183, 0, 1, 42, 44, 181, 0, 7, 42, 45, 181, 0, 13, 42, 43, 181, 0, 17, 177]
abbrev dktJ30_init_0 : List UInt8 := dkwJ30_init_0 ++ []
theorem dksJ30_init_0 : cJ30_init.data.toList.drop 0 = dktJ30_init_0 := by decide +kernel
theorem dJ30_init_0 : decode cJ30_init 0 = .ok (.aload_n 0, 1) := dk_42 (dk_at dksJ30_init_0 0 rfl rfl)
theorem dJ30_init_1 : decode cJ30_init 1 = .ok (.invokespecial 1, 3) := dk_183 0 1 (dk_at dksJ30_init_0 1 rfl rfl)
theorem dJ30_init_4 : decode cJ30_init 4 = .ok (.aload_n 0, 1) := dk_42 (dk_at dksJ30_init_0 4 rfl rfl)
theorem dJ30_init_5 : decode cJ30_init 5 = .ok (.aload_n 2, 1) := dk_44 (dk_at dksJ30_init_0 5 rfl rfl)
theorem dJ30_init_6 : decode cJ30_init 6 = .ok (.putfield 7, 3) := dk_181 0 7 (dk_at dksJ30_init_0 6 rfl rfl)
theorem dJ30_init_9 : decode cJ30_init 9 = .ok (.aload_n 0, 1) := dk_42 (dk_at dksJ30_init_0 9 rfl rfl)
theorem dJ30_init_10 : decode cJ30_init 10 = .ok (.aload_n 3, 1) := dk_45 (dk_at dksJ30_init_0 10 rfl rfl)
theorem dJ30_init_11 : decode cJ30_init 11 = .ok (.putfield 13, 3) := dk_181 0 13 (dk_at dksJ30_init_0 11 rfl rfl)
theorem dJ30_init_14 : decode cJ30_init 14 = .ok (.aload_n 0, 1) := dk_42 (dk_at dksJ30_init_0 14 rfl rfl)
theorem dJ30_init_15 : decode cJ30_init 15 = .ok (.aload_n 1, 1) := dk_43 (dk_at dksJ30_init_0 15 rfl rfl)
theorem dJ30_init_16 : decode cJ30_init 16 = .ok (.putfield 17, 3) := dk_181 0 17 (dk_at dksJ30_init_0 16 rfl rfl)
theorem dJ30_init_19 : decode cJ30_init 19 = .ok (.return_, 1) := dk_177 (dk_at dksJ30_init_0 19 rfl rfl)
theorem q164 : (Jvm.Cond.initialized "java/util/LinkedList$Node") ∈ lw_all := lw_g (lw_at lw_m1 42 rfl) rfl
theorem q245 : (Jvm.Cond.selects "java/util/LinkedList$Node" ({ cls := "java/lang/Object", name := "getClass", desc := "()Ljava/lang/Class;" } : Jvm.MethodName) ({ cls := "java/lang/Object", name := "getClass", desc := "()Ljava/lang/Class;" } : Jvm.MethodName)) ∈ lw_all := lw_g (lw_at lw_m1 123 rfl) rfl
theorem q1224 : (Jvm.Cond.instantiable "java/util/LinkedList$Node" (3 : Nat)) ∈ lw_all := lw_g (lw_at lw_m5 142 rfl) rfl
theorem q1226 : (Jvm.Cond.instanceMethod ({ cls := "java/util/LinkedList$Node", name := "<init>", desc := "(Ljava/util/LinkedList$Node;Ljava/lang/Object;Ljava/util/LinkedList$Node;)V" } : Jvm.MethodName)) ∈ lw_all := lw_g (lw_at lw_m5 144 rfl) rfl
theorem q1227 : (Jvm.Cond.code ({ cls := "java/util/LinkedList$Node", name := "<init>", desc := "(Ljava/util/LinkedList$Node;Ljava/lang/Object;Ljava/util/LinkedList$Node;)V" } : Jvm.MethodName) prog_64_method_1_code (4 : Nat) (Option.none : Option Jvm.ClassFile.FieldType)) ∈ lw_all := lw_g (lw_at lw_m5 145 rfl) rfl
theorem q1228 : (Jvm.Cond.methodLink "java/util/LinkedList$Node" (1 : Nat) ({ cls := "java/lang/Object", name := "<init>", desc := "()V" } : Jvm.MethodName)) ∈ lw_all := lw_g (lw_at lw_m5 146 rfl) rfl
theorem q1229 : (Jvm.Cond.fieldLink "java/util/LinkedList$Node" (7 : Nat) "java/util/LinkedList$Node" "item" "Ljava/lang/Object;") ∈ lw_all := lw_g (lw_at lw_m5 147 rfl) rfl
theorem q1232 : (Jvm.Cond.fieldLink "java/util/LinkedList$Node" (13 : Nat) "java/util/LinkedList$Node" "next" "Ljava/util/LinkedList$Node;") ∈ lw_all := lw_g (lw_at lw_m5 150 rfl) rfl
theorem q1235 : (Jvm.Cond.fieldLink "java/util/LinkedList$Node" (17 : Nat) "java/util/LinkedList$Node" "prev" "Ljava/util/LinkedList$Node;") ∈ lw_all := lw_g (lw_at lw_m5 153 rfl) rfl
theorem q1237 : (Jvm.Cond.lays "java/util/LinkedList$Node" "java/util/LinkedList$Node" "item" "Ljava/lang/Object;") ∈ lw_all := lw_g (lw_at lw_m5 155 rfl) rfl
theorem q1238 : (Jvm.Cond.soleField "java/util/LinkedList$Node" "item") ∈ lw_all := lw_g (lw_at lw_m5 156 rfl) rfl
theorem q1239 : (Jvm.Cond.lays "java/util/LinkedList$Node" "java/util/LinkedList$Node" "next" "Ljava/util/LinkedList$Node;") ∈ lw_all := lw_g (lw_at lw_m5 157 rfl) rfl
theorem q1240 : (Jvm.Cond.soleField "java/util/LinkedList$Node" "next") ∈ lw_all := lw_g (lw_at lw_m5 158 rfl) rfl
theorem q1241 : (Jvm.Cond.lays "java/util/LinkedList$Node" "java/util/LinkedList$Node" "prev" "Ljava/util/LinkedList$Node;") ∈ lw_all := lw_g (lw_at lw_m5 159 rfl) rfl
theorem q1242 : (Jvm.Cond.soleField "java/util/LinkedList$Node" "prev") ∈ lw_all := lw_g (lw_at lw_m5 160 rfl) rfl
theorem q1243 : (Jvm.Cond.superclass "java/util/LinkedList$Node" "java/lang/Object") ∈ lw_all := lw_g (lw_at lw_m5 161 rfl) rfl
theorem q2985 : (Jvm.Cond.castable "java/util/LinkedList$Node" "java/lang/Object") ∈ lw_tbl := lw_at lw_m12 223 rfl

abbrev cJ31_init : ByteArray := prog_21_method_2_code
def yJ31_init : MethodName := ⟨RJ31, "<init>", "(Ljava/lang/String;)V"⟩
def dkwJ31_init_0 : List UInt8 := [42, 43, 183, 0, 7, 177]
abbrev dktJ31_init_0 : List UInt8 := dkwJ31_init_0 ++ []
theorem dksJ31_init_0 : cJ31_init.data.toList.drop 0 = dktJ31_init_0 := by decide +kernel
theorem dJ31_init_0 : decode cJ31_init 0 = .ok (.aload_n 0, 1) := dk_42 (dk_at dksJ31_init_0 0 rfl rfl)
theorem dJ31_init_1 : decode cJ31_init 1 = .ok (.aload_n 1, 1) := dk_43 (dk_at dksJ31_init_0 1 rfl rfl)
theorem dJ31_init_2 : decode cJ31_init 2 = .ok (.invokespecial 7, 3) := dk_183 0 7 (dk_at dksJ31_init_0 2 rfl rfl)
theorem dJ31_init_5 : decode cJ31_init 5 = .ok (.return_, 1) := dk_177 (dk_at dksJ31_init_0 5 rfl rfl)
theorem q170 : (Jvm.Cond.initialized "java/lang/ArrayIndexOutOfBoundsException") ∈ lw_all := lw_g (lw_at lw_m1 48 rfl) rfl
theorem q231 : (Jvm.Cond.selects "java/lang/ArrayIndexOutOfBoundsException" ({ cls := "java/lang/Object", name := "getClass", desc := "()Ljava/lang/Class;" } : Jvm.MethodName) ({ cls := "java/lang/Object", name := "getClass", desc := "()Ljava/lang/Class;" } : Jvm.MethodName)) ∈ lw_all := lw_g (lw_at lw_m1 109 rfl) rfl
theorem q637 : (Jvm.Cond.selects "java/lang/ArrayIndexOutOfBoundsException" ({ cls := "java/lang/Throwable", name := "fillInStackTrace", desc := "()Ljava/lang/Throwable;" } : Jvm.MethodName) ({ cls := "java/lang/Throwable", name := "fillInStackTrace", desc := "()Ljava/lang/Throwable;" } : Jvm.MethodName)) ∈ lw_all := lw_g (lw_at lw_m3 35 rfl) rfl
theorem q1041 : (Jvm.Cond.selects "java/lang/ArrayIndexOutOfBoundsException" ({ cls := "java/lang/Throwable", name := "toString", desc := "()Ljava/lang/String;" } : Jvm.MethodName) ({ cls := "java/lang/Throwable", name := "toString", desc := "()Ljava/lang/String;" } : Jvm.MethodName)) ∈ lw_all := lw_g (lw_at lw_m4 199 rfl) rfl
theorem q1052 : (Jvm.Cond.selects "java/lang/ArrayIndexOutOfBoundsException" ({ cls := "java/lang/Throwable", name := "getLocalizedMessage", desc := "()Ljava/lang/String;" } : Jvm.MethodName) ({ cls := "java/lang/Throwable", name := "getLocalizedMessage", desc := "()Ljava/lang/String;" } : Jvm.MethodName)) ∈ lw_all := lw_g (lw_at lw_m4 210 rfl) rfl
theorem q1062 : (Jvm.Cond.selects "java/lang/ArrayIndexOutOfBoundsException" ({ cls := "java/lang/Throwable", name := "getMessage", desc := "()Ljava/lang/String;" } : Jvm.MethodName) ({ cls := "java/lang/Throwable", name := "getMessage", desc := "()Ljava/lang/String;" } : Jvm.MethodName)) ∈ lw_all := lw_g (lw_at lw_m4 220 rfl) rfl
theorem q2324 : (Jvm.Cond.instantiable "java/lang/ArrayIndexOutOfBoundsException" (6 : Nat)) ∈ lw_all := lw_g (lw_at lw_m10 42 rfl) rfl
theorem q2325 : (Jvm.Cond.instanceMethod ({ cls := "java/lang/ArrayIndexOutOfBoundsException", name := "<init>", desc := "(Ljava/lang/String;)V" } : Jvm.MethodName)) ∈ lw_all := lw_g (lw_at lw_m10 43 rfl) rfl
theorem q2326 : (Jvm.Cond.code ({ cls := "java/lang/ArrayIndexOutOfBoundsException", name := "<init>", desc := "(Ljava/lang/String;)V" } : Jvm.MethodName) prog_21_method_2_code (2 : Nat) (Option.none : Option Jvm.ClassFile.FieldType)) ∈ lw_all := lw_g (lw_at lw_m10 44 rfl) rfl
theorem q2327 : (Jvm.Cond.methodLink "java/lang/ArrayIndexOutOfBoundsException" (7 : Nat) ({ cls := "java/lang/IndexOutOfBoundsException", name := "<init>", desc := "(Ljava/lang/String;)V" } : Jvm.MethodName)) ∈ lw_all := lw_g (lw_at lw_m10 45 rfl) rfl
theorem q2328 : (Jvm.Cond.lays "java/lang/ArrayIndexOutOfBoundsException" "java/lang/Throwable" "backtrace" "Ljava/lang/Object;") ∈ lw_all := lw_g (lw_at lw_m10 46 rfl) rfl
theorem q2329 : (Jvm.Cond.lays "java/lang/ArrayIndexOutOfBoundsException" "java/lang/Throwable" "detailMessage" "Ljava/lang/String;") ∈ lw_all := lw_g (lw_at lw_m10 47 rfl) rfl
theorem q2330 : (Jvm.Cond.lays "java/lang/ArrayIndexOutOfBoundsException" "java/lang/Throwable" "cause" "Ljava/lang/Throwable;") ∈ lw_all := lw_g (lw_at lw_m10 48 rfl) rfl
theorem q2331 : (Jvm.Cond.lays "java/lang/ArrayIndexOutOfBoundsException" "java/lang/Throwable" "stackTrace" "[Ljava/lang/StackTraceElement;") ∈ lw_all := lw_g (lw_at lw_m10 49 rfl) rfl
theorem q2332 : (Jvm.Cond.lays "java/lang/ArrayIndexOutOfBoundsException" "java/lang/Throwable" "depth" "I") ∈ lw_all := lw_g (lw_at lw_m10 50 rfl) rfl
theorem q2333 : (Jvm.Cond.lays "java/lang/ArrayIndexOutOfBoundsException" "java/lang/Throwable" "suppressedExceptions" "Ljava/util/List;") ∈ lw_all := lw_g (lw_at lw_m10 51 rfl) rfl
theorem q2334 : (Jvm.Cond.superclass "java/lang/ArrayIndexOutOfBoundsException" "java/lang/IndexOutOfBoundsException") ∈ lw_all := lw_g (lw_at lw_m10 52 rfl) rfl
theorem q2335 : (Jvm.Cond.castable "java/lang/ArrayIndexOutOfBoundsException" "java/lang/ArrayIndexOutOfBoundsException") ∈ lw_tbl := lw_at lw_m10 53 rfl
theorem q2338 : (Jvm.Cond.selects "java/lang/ArrayIndexOutOfBoundsException" ({ cls := "java/lang/Throwable", name := "fillInStackTrace", desc := "(I)Ljava/lang/Throwable;" } : Jvm.MethodName) ({ cls := "java/lang/Throwable", name := "fillInStackTrace", desc := "(I)Ljava/lang/Throwable;" } : Jvm.MethodName)) ∈ lw_all := lw_g (lw_at lw_m10 56 rfl) rfl
theorem q2964 : (Jvm.Cond.castable "java/lang/ArrayIndexOutOfBoundsException" "java/lang/IndexOutOfBoundsException") ∈ lw_tbl := lw_at lw_m12 202 rfl
theorem q2991 : (Jvm.Cond.castable "java/lang/ArrayIndexOutOfBoundsException" "java/lang/Object") ∈ lw_tbl := lw_at lw_m12 229 rfl

abbrev cJ32_hasNext : ByteArray := prog_48_method_2_code
def yJ32_hasNext : MethodName := ⟨RJ32, "hasNext", "()Z"⟩
def dkwJ32_hasNext_0 : List UInt8 := [42, 180, 0, 19, 158, 0, 7, 4, 167, 0, 4, 3, 172]
abbrev dktJ32_hasNext_0 : List UInt8 := dkwJ32_hasNext_0 ++ []
theorem dksJ32_hasNext_0 : cJ32_hasNext.data.toList.drop 0 = dktJ32_hasNext_0 := by decide +kernel
theorem dJ32_hasNext_0 : decode cJ32_hasNext 0 = .ok (.aload_n 0, 1) := dk_42 (dk_at dksJ32_hasNext_0 0 rfl rfl)
theorem dJ32_hasNext_1 : decode cJ32_hasNext 1 = .ok (.getfield 19, 3) := dk_180 0 19 (dk_at dksJ32_hasNext_0 1 rfl rfl)
theorem dJ32_hasNext_4 : decode cJ32_hasNext 4 = .ok (.ifCond .le 7, 3) := dk_158 0 7 (dk_at dksJ32_hasNext_0 4 rfl rfl)
theorem dJ32_hasNext_7 : decode cJ32_hasNext 7 = .ok (.iconst 1, 1) := dk_4 (dk_at dksJ32_hasNext_0 7 rfl rfl)
theorem dJ32_hasNext_8 : decode cJ32_hasNext 8 = .ok (.goto 4, 3) := dk_167 0 4 (dk_at dksJ32_hasNext_0 8 rfl rfl)
theorem dJ32_hasNext_11 : decode cJ32_hasNext 11 = .ok (.iconst 0, 1) := dk_3 (dk_at dksJ32_hasNext_0 11 rfl rfl)
theorem dJ32_hasNext_12 : decode cJ32_hasNext 12 = .ok (.ireturn, 1) := dk_172 (dk_at dksJ32_hasNext_0 12 rfl rfl)
abbrev cJ32_next : ByteArray := prog_48_method_3_code
def yJ32_next : MethodName := ⟨RJ32, "next", "()Ljava/lang/Object;"⟩
def dkwJ32_next_2 : List UInt8 := [181, 0, 29, 42, 89, 180, 0, 19, 4, 100, 181, 0, 19, 44, 176]
abbrev dktJ32_next_2 : List UInt8 := dkwJ32_next_2 ++ []
def dkwJ32_next_1 : List UInt8 := [42, 180, 0, 29, 184, 0, 39, 77, 42, 42, 42, 180, 0, 29, 90, 181, 0, 23, 43, 190, 184, 0, 43]
abbrev dktJ32_next_1 : List UInt8 := dkwJ32_next_1 ++ dktJ32_next_2
def dkwJ32_next_0 : List UInt8 := [42, 180, 0, 19, 157, 0, 11, 187, 0, 32, 89, 183, 0, 34, 191, 42, 180, 0, 1, 180, 0, 35, 76, 43]
abbrev dktJ32_next_0 : List UInt8 := dkwJ32_next_0 ++ dktJ32_next_1
theorem dksJ32_next_0 : cJ32_next.data.toList.drop 0 = dktJ32_next_0 := by decide +kernel
theorem dksJ32_next_1 : cJ32_next.data.toList.drop 24 = dktJ32_next_1 := dk_seg dksJ32_next_0 24 rfl rfl
theorem dksJ32_next_2 : cJ32_next.data.toList.drop 47 = dktJ32_next_2 := dk_seg dksJ32_next_1 23 rfl rfl
theorem dJ32_next_0 : decode cJ32_next 0 = .ok (.aload_n 0, 1) := dk_42 (dk_at dksJ32_next_0 0 rfl rfl)
theorem dJ32_next_1 : decode cJ32_next 1 = .ok (.getfield 19, 3) := dk_180 0 19 (dk_at dksJ32_next_0 1 rfl rfl)
theorem dJ32_next_4 : decode cJ32_next 4 = .ok (.ifCond .gt 11, 3) := dk_157 0 11 (dk_at dksJ32_next_0 4 rfl rfl)
theorem dJ32_next_7 : decode cJ32_next 7 = .ok (.new 32, 3) := dk_187 0 32 (dk_at dksJ32_next_0 7 rfl rfl)
theorem dJ32_next_10 : decode cJ32_next 10 = .ok (.dup, 1) := dk_89 (dk_at dksJ32_next_0 10 rfl rfl)
theorem dJ32_next_11 : decode cJ32_next 11 = .ok (.invokespecial 34, 3) := dk_183 0 34 (dk_at dksJ32_next_0 11 rfl rfl)
theorem dJ32_next_14 : decode cJ32_next 14 = .ok (.athrow, 1) := dk_191 (dk_at dksJ32_next_0 14 rfl rfl)
theorem dJ32_next_15 : decode cJ32_next 15 = .ok (.aload_n 0, 1) := dk_42 (dk_at dksJ32_next_0 15 rfl rfl)
theorem dJ32_next_16 : decode cJ32_next 16 = .ok (.getfield 1, 3) := dk_180 0 1 (dk_at dksJ32_next_0 16 rfl rfl)
theorem dJ32_next_19 : decode cJ32_next 19 = .ok (.getfield 35, 3) := dk_180 0 35 (dk_at dksJ32_next_0 19 rfl rfl)
theorem dJ32_next_22 : decode cJ32_next 22 = .ok (.astore_n 1, 1) := dk_76 (dk_at dksJ32_next_0 22 rfl rfl)
theorem dJ32_next_23 : decode cJ32_next 23 = .ok (.aload_n 1, 1) := dk_43 (dk_at dksJ32_next_0 23 rfl rfl)
theorem dJ32_next_24 : decode cJ32_next 24 = .ok (.aload_n 0, 1) := dk_42 (dk_at dksJ32_next_1 0 rfl rfl)
theorem dJ32_next_25 : decode cJ32_next 25 = .ok (.getfield 29, 3) := dk_180 0 29 (dk_at dksJ32_next_1 1 rfl rfl)
theorem dJ32_next_28 : decode cJ32_next 28 = .ok (.invokestatic 39, 3) := dk_184 0 39 (dk_at dksJ32_next_1 4 rfl rfl)
theorem dJ32_next_31 : decode cJ32_next 31 = .ok (.astore_n 2, 1) := dk_77 (dk_at dksJ32_next_1 7 rfl rfl)
theorem dJ32_next_32 : decode cJ32_next 32 = .ok (.aload_n 0, 1) := dk_42 (dk_at dksJ32_next_1 8 rfl rfl)
theorem dJ32_next_33 : decode cJ32_next 33 = .ok (.aload_n 0, 1) := dk_42 (dk_at dksJ32_next_1 9 rfl rfl)
theorem dJ32_next_34 : decode cJ32_next 34 = .ok (.aload_n 0, 1) := dk_42 (dk_at dksJ32_next_1 10 rfl rfl)
theorem dJ32_next_35 : decode cJ32_next 35 = .ok (.getfield 29, 3) := dk_180 0 29 (dk_at dksJ32_next_1 11 rfl rfl)
theorem dJ32_next_38 : decode cJ32_next 38 = .ok (.dup_x1, 1) := dk_90 (dk_at dksJ32_next_1 14 rfl rfl)
theorem dJ32_next_39 : decode cJ32_next 39 = .ok (.putfield 23, 3) := dk_181 0 23 (dk_at dksJ32_next_1 15 rfl rfl)
theorem dJ32_next_42 : decode cJ32_next 42 = .ok (.aload_n 1, 1) := dk_43 (dk_at dksJ32_next_1 18 rfl rfl)
theorem dJ32_next_43 : decode cJ32_next 43 = .ok (.arraylength, 1) := dk_190 (dk_at dksJ32_next_1 19 rfl rfl)
theorem dJ32_next_44 : decode cJ32_next 44 = .ok (.invokestatic 43, 3) := dk_184 0 43 (dk_at dksJ32_next_1 20 rfl rfl)
theorem dJ32_next_47 : decode cJ32_next 47 = .ok (.putfield 29, 3) := dk_181 0 29 (dk_at dksJ32_next_2 0 rfl rfl)
theorem dJ32_next_50 : decode cJ32_next 50 = .ok (.aload_n 0, 1) := dk_42 (dk_at dksJ32_next_2 3 rfl rfl)
theorem dJ32_next_51 : decode cJ32_next 51 = .ok (.dup, 1) := dk_89 (dk_at dksJ32_next_2 4 rfl rfl)
theorem dJ32_next_52 : decode cJ32_next 52 = .ok (.getfield 19, 3) := dk_180 0 19 (dk_at dksJ32_next_2 5 rfl rfl)
theorem dJ32_next_55 : decode cJ32_next 55 = .ok (.iconst 1, 1) := dk_4 (dk_at dksJ32_next_2 8 rfl rfl)
theorem dJ32_next_56 : decode cJ32_next 56 = .ok (.isub, 1) := dk_100 (dk_at dksJ32_next_2 9 rfl rfl)
theorem dJ32_next_57 : decode cJ32_next 57 = .ok (.putfield 19, 3) := dk_181 0 19 (dk_at dksJ32_next_2 10 rfl rfl)
theorem dJ32_next_60 : decode cJ32_next 60 = .ok (.aload_n 2, 1) := dk_44 (dk_at dksJ32_next_2 13 rfl rfl)
theorem dJ32_next_61 : decode cJ32_next 61 = .ok (.areturn, 1) := dk_176 (dk_at dksJ32_next_2 14 rfl rfl)
abbrev cJ32_init : ByteArray := prog_48_method_1_code
def yJ32_init : MethodName := ⟨RJ32, "<init>", "(Ljava/util/ArrayDeque;)V"⟩
def dkwJ32_init_1 : List UInt8 := [181, 0, 23, 42, 43, 180, 0, 26, 181, 0, 29, 177]
abbrev dktJ32_init_1 : List UInt8 := dkwJ32_init_1 ++ []
def dkwJ32_init_0 : List UInt8 := [42, 43, 181, 0, 1, 42, 183, 0, 7, 42, 42, 180, 0, 1, 182, 0, 13, 181, 0, 19, 42, 2]
abbrev dktJ32_init_0 : List UInt8 := dkwJ32_init_0 ++ dktJ32_init_1
theorem dksJ32_init_0 : cJ32_init.data.toList.drop 0 = dktJ32_init_0 := by decide +kernel
theorem dksJ32_init_1 : cJ32_init.data.toList.drop 22 = dktJ32_init_1 := dk_seg dksJ32_init_0 22 rfl rfl
theorem dJ32_init_0 : decode cJ32_init 0 = .ok (.aload_n 0, 1) := dk_42 (dk_at dksJ32_init_0 0 rfl rfl)
theorem dJ32_init_1 : decode cJ32_init 1 = .ok (.aload_n 1, 1) := dk_43 (dk_at dksJ32_init_0 1 rfl rfl)
theorem dJ32_init_2 : decode cJ32_init 2 = .ok (.putfield 1, 3) := dk_181 0 1 (dk_at dksJ32_init_0 2 rfl rfl)
theorem dJ32_init_5 : decode cJ32_init 5 = .ok (.aload_n 0, 1) := dk_42 (dk_at dksJ32_init_0 5 rfl rfl)
theorem dJ32_init_6 : decode cJ32_init 6 = .ok (.invokespecial 7, 3) := dk_183 0 7 (dk_at dksJ32_init_0 6 rfl rfl)
theorem dJ32_init_9 : decode cJ32_init 9 = .ok (.aload_n 0, 1) := dk_42 (dk_at dksJ32_init_0 9 rfl rfl)
theorem dJ32_init_10 : decode cJ32_init 10 = .ok (.aload_n 0, 1) := dk_42 (dk_at dksJ32_init_0 10 rfl rfl)
theorem dJ32_init_11 : decode cJ32_init 11 = .ok (.getfield 1, 3) := dk_180 0 1 (dk_at dksJ32_init_0 11 rfl rfl)
theorem dJ32_init_14 : decode cJ32_init 14 = .ok (.invokevirtual 13, 3) := dk_182 0 13 (dk_at dksJ32_init_0 14 rfl rfl)
theorem dJ32_init_17 : decode cJ32_init 17 = .ok (.putfield 19, 3) := dk_181 0 19 (dk_at dksJ32_init_0 17 rfl rfl)
theorem dJ32_init_20 : decode cJ32_init 20 = .ok (.aload_n 0, 1) := dk_42 (dk_at dksJ32_init_0 20 rfl rfl)
theorem dJ32_init_21 : decode cJ32_init 21 = .ok (.iconst (-1), 1) := dk_2 (dk_at dksJ32_init_0 21 rfl rfl)
theorem dJ32_init_22 : decode cJ32_init 22 = .ok (.putfield 23, 3) := dk_181 0 23 (dk_at dksJ32_init_1 0 rfl rfl)
theorem dJ32_init_25 : decode cJ32_init 25 = .ok (.aload_n 0, 1) := dk_42 (dk_at dksJ32_init_1 3 rfl rfl)
theorem dJ32_init_26 : decode cJ32_init 26 = .ok (.aload_n 1, 1) := dk_43 (dk_at dksJ32_init_1 4 rfl rfl)
theorem dJ32_init_27 : decode cJ32_init 27 = .ok (.getfield 26, 3) := dk_180 0 26 (dk_at dksJ32_init_1 5 rfl rfl)
theorem dJ32_init_30 : decode cJ32_init 30 = .ok (.putfield 29, 3) := dk_181 0 29 (dk_at dksJ32_init_1 8 rfl rfl)
theorem dJ32_init_33 : decode cJ32_init 33 = .ok (.return_, 1) := dk_177 (dk_at dksJ32_init_1 11 rfl rfl)
abbrev cJ32_remove : ByteArray := prog_48_method_5_code
def yJ32_remove : MethodName := ⟨RJ32, "remove", "()V"⟩
def dkwJ32_remove_1 : List UInt8 := [182, 0, 53, 182, 0, 57, 42, 2, 181, 0, 23, 177]
abbrev dktJ32_remove_1 : List UInt8 := dkwJ32_remove_1 ++ []
def dkwJ32_remove_0 : List UInt8 := [42, 180, 0, 23, 156, 0, 11, 187, 0, 50, 89, 183, 0, 52, 191, 42, 42, 180, 0, 1, 42, 180, 0, 23]
abbrev dktJ32_remove_0 : List UInt8 := dkwJ32_remove_0 ++ dktJ32_remove_1
theorem dksJ32_remove_0 : cJ32_remove.data.toList.drop 0 = dktJ32_remove_0 := by decide +kernel
theorem dksJ32_remove_1 : cJ32_remove.data.toList.drop 24 = dktJ32_remove_1 := dk_seg dksJ32_remove_0 24 rfl rfl
theorem dJ32_remove_0 : decode cJ32_remove 0 = .ok (.aload_n 0, 1) := dk_42 (dk_at dksJ32_remove_0 0 rfl rfl)
theorem dJ32_remove_1 : decode cJ32_remove 1 = .ok (.getfield 23, 3) := dk_180 0 23 (dk_at dksJ32_remove_0 1 rfl rfl)
theorem dJ32_remove_4 : decode cJ32_remove 4 = .ok (.ifCond .ge 11, 3) := dk_156 0 11 (dk_at dksJ32_remove_0 4 rfl rfl)
theorem dJ32_remove_7 : decode cJ32_remove 7 = .ok (.new 50, 3) := dk_187 0 50 (dk_at dksJ32_remove_0 7 rfl rfl)
theorem dJ32_remove_10 : decode cJ32_remove 10 = .ok (.dup, 1) := dk_89 (dk_at dksJ32_remove_0 10 rfl rfl)
theorem dJ32_remove_11 : decode cJ32_remove 11 = .ok (.invokespecial 52, 3) := dk_183 0 52 (dk_at dksJ32_remove_0 11 rfl rfl)
theorem dJ32_remove_14 : decode cJ32_remove 14 = .ok (.athrow, 1) := dk_191 (dk_at dksJ32_remove_0 14 rfl rfl)
theorem dJ32_remove_15 : decode cJ32_remove 15 = .ok (.aload_n 0, 1) := dk_42 (dk_at dksJ32_remove_0 15 rfl rfl)
theorem dJ32_remove_16 : decode cJ32_remove 16 = .ok (.aload_n 0, 1) := dk_42 (dk_at dksJ32_remove_0 16 rfl rfl)
theorem dJ32_remove_17 : decode cJ32_remove 17 = .ok (.getfield 1, 3) := dk_180 0 1 (dk_at dksJ32_remove_0 17 rfl rfl)
theorem dJ32_remove_20 : decode cJ32_remove 20 = .ok (.aload_n 0, 1) := dk_42 (dk_at dksJ32_remove_0 20 rfl rfl)
theorem dJ32_remove_21 : decode cJ32_remove 21 = .ok (.getfield 23, 3) := dk_180 0 23 (dk_at dksJ32_remove_0 21 rfl rfl)
theorem dJ32_remove_24 : decode cJ32_remove 24 = .ok (.invokevirtual 53, 3) := dk_182 0 53 (dk_at dksJ32_remove_1 0 rfl rfl)
theorem dJ32_remove_27 : decode cJ32_remove 27 = .ok (.invokevirtual 57, 3) := dk_182 0 57 (dk_at dksJ32_remove_1 3 rfl rfl)
theorem dJ32_remove_30 : decode cJ32_remove 30 = .ok (.aload_n 0, 1) := dk_42 (dk_at dksJ32_remove_1 6 rfl rfl)
theorem dJ32_remove_31 : decode cJ32_remove 31 = .ok (.iconst (-1), 1) := dk_2 (dk_at dksJ32_remove_1 7 rfl rfl)
theorem dJ32_remove_32 : decode cJ32_remove 32 = .ok (.putfield 23, 3) := dk_181 0 23 (dk_at dksJ32_remove_1 8 rfl rfl)
theorem dJ32_remove_35 : decode cJ32_remove 35 = .ok (.return_, 1) := dk_177 (dk_at dksJ32_remove_1 11 rfl rfl)
abbrev cJ32_postDelete : ByteArray := prog_48_method_4_code
def yJ32_postDelete : MethodName := ⟨RJ32, "postDelete", "(Z)V"⟩
def dkwJ32_postDelete_0 : List UInt8 := [27, 153, 0, 22, 42, 42, 180, 0, 29, 42, 180, 0, 1, 180, 0, 35, 190, 184, 0, 47, 181, 0, 29, 177]
abbrev dktJ32_postDelete_0 : List UInt8 := dkwJ32_postDelete_0 ++ []
theorem dksJ32_postDelete_0 : cJ32_postDelete.data.toList.drop 0 = dktJ32_postDelete_0 := by decide +kernel
theorem dJ32_postDelete_0 : decode cJ32_postDelete 0 = .ok (.iload_n 1, 1) := dk_27 (dk_at dksJ32_postDelete_0 0 rfl rfl)
theorem dJ32_postDelete_1 : decode cJ32_postDelete 1 = .ok (.ifCond .eq 22, 3) := dk_153 0 22 (dk_at dksJ32_postDelete_0 1 rfl rfl)
theorem dJ32_postDelete_4 : decode cJ32_postDelete 4 = .ok (.aload_n 0, 1) := dk_42 (dk_at dksJ32_postDelete_0 4 rfl rfl)
theorem dJ32_postDelete_5 : decode cJ32_postDelete 5 = .ok (.aload_n 0, 1) := dk_42 (dk_at dksJ32_postDelete_0 5 rfl rfl)
theorem dJ32_postDelete_6 : decode cJ32_postDelete 6 = .ok (.getfield 29, 3) := dk_180 0 29 (dk_at dksJ32_postDelete_0 6 rfl rfl)
theorem dJ32_postDelete_9 : decode cJ32_postDelete 9 = .ok (.aload_n 0, 1) := dk_42 (dk_at dksJ32_postDelete_0 9 rfl rfl)
theorem dJ32_postDelete_10 : decode cJ32_postDelete 10 = .ok (.getfield 1, 3) := dk_180 0 1 (dk_at dksJ32_postDelete_0 10 rfl rfl)
theorem dJ32_postDelete_13 : decode cJ32_postDelete 13 = .ok (.getfield 35, 3) := dk_180 0 35 (dk_at dksJ32_postDelete_0 13 rfl rfl)
theorem dJ32_postDelete_16 : decode cJ32_postDelete 16 = .ok (.arraylength, 1) := dk_190 (dk_at dksJ32_postDelete_0 16 rfl rfl)
theorem dJ32_postDelete_17 : decode cJ32_postDelete 17 = .ok (.invokestatic 47, 3) := dk_184 0 47 (dk_at dksJ32_postDelete_0 17 rfl rfl)
theorem dJ32_postDelete_20 : decode cJ32_postDelete 20 = .ok (.putfield 29, 3) := dk_181 0 29 (dk_at dksJ32_postDelete_0 20 rfl rfl)
theorem dJ32_postDelete_23 : decode cJ32_postDelete 23 = .ok (.return_, 1) := dk_177 (dk_at dksJ32_postDelete_0 23 rfl rfl)
theorem q171 : (Jvm.Cond.initialized "java/util/ArrayDeque$DeqIterator") ∈ lw_all := lw_g (lw_at lw_m1 49 rfl) rfl
theorem q238 : (Jvm.Cond.selects "java/util/ArrayDeque$DeqIterator" ({ cls := "java/lang/Object", name := "getClass", desc := "()Ljava/lang/Class;" } : Jvm.MethodName) ({ cls := "java/lang/Object", name := "getClass", desc := "()Ljava/lang/Class;" } : Jvm.MethodName)) ∈ lw_all := lw_g (lw_at lw_m1 116 rfl) rfl
theorem q464 : (Jvm.Cond.fieldLink "java/util/ArrayDeque$DeqIterator" (35 : Nat) "java/util/ArrayDeque" "elements" "[Ljava/lang/Object;") ∈ lw_all := lw_g (lw_at lw_m2 102 rfl) rfl
theorem q465 : (Jvm.Cond.fieldLink "java/util/ArrayDeque$DeqIterator" (26 : Nat) "java/util/ArrayDeque" "head" "I") ∈ lw_all := lw_g (lw_at lw_m2 103 rfl) rfl
theorem q986 : (Jvm.Cond.castable "java/util/ArrayDeque$DeqIterator" "java/util/Iterator") ∈ lw_tbl := lw_at lw_m4 144 rfl
theorem q987 : (Jvm.Cond.selects "java/util/ArrayDeque$DeqIterator" ({ cls := "java/util/Iterator", name := "hasNext", desc := "()Z" } : Jvm.MethodName) ({ cls := "java/util/ArrayDeque$DeqIterator", name := "hasNext", desc := "()Z" } : Jvm.MethodName)) ∈ lw_all := lw_g (lw_at lw_m4 145 rfl) rfl
theorem q988 : (Jvm.Cond.unhidden "java/util/ArrayDeque$DeqIterator" "hasNext" "()Z") ∈ lw_tbl := lw_at lw_m4 146 rfl
theorem q989 : (Jvm.Cond.instanceMethod ({ cls := "java/util/ArrayDeque$DeqIterator", name := "hasNext", desc := "()Z" } : Jvm.MethodName)) ∈ lw_all := lw_g (lw_at lw_m4 147 rfl) rfl
theorem q990 : (Jvm.Cond.publicMethod ({ cls := "java/util/ArrayDeque$DeqIterator", name := "hasNext", desc := "()Z" } : Jvm.MethodName)) ∈ lw_tbl := lw_at lw_m4 148 rfl
theorem q991 : (Jvm.Cond.code ({ cls := "java/util/ArrayDeque$DeqIterator", name := "hasNext", desc := "()Z" } : Jvm.MethodName) prog_48_method_2_code (1 : Nat) (Option.some Jvm.ClassFile.FieldType.boolean)) ∈ lw_all := lw_g (lw_at lw_m4 149 rfl) rfl
theorem q1075 : (Jvm.Cond.selects "java/util/ArrayDeque$DeqIterator" ({ cls := "java/util/Iterator", name := "next", desc := "()Ljava/lang/Object;" } : Jvm.MethodName) ({ cls := "java/util/ArrayDeque$DeqIterator", name := "next", desc := "()Ljava/lang/Object;" } : Jvm.MethodName)) ∈ lw_all := lw_g (lw_at lw_m4 233 rfl) rfl
theorem q1076 : (Jvm.Cond.unhidden "java/util/ArrayDeque$DeqIterator" "next" "()Ljava/lang/Object;") ∈ lw_tbl := lw_at lw_m4 234 rfl
theorem q1077 : (Jvm.Cond.instanceMethod ({ cls := "java/util/ArrayDeque$DeqIterator", name := "next", desc := "()Ljava/lang/Object;" } : Jvm.MethodName)) ∈ lw_all := lw_g (lw_at lw_m4 235 rfl) rfl
theorem q1078 : (Jvm.Cond.publicMethod ({ cls := "java/util/ArrayDeque$DeqIterator", name := "next", desc := "()Ljava/lang/Object;" } : Jvm.MethodName)) ∈ lw_tbl := lw_at lw_m4 236 rfl
theorem q1079 : (Jvm.Cond.code ({ cls := "java/util/ArrayDeque$DeqIterator", name := "next", desc := "()Ljava/lang/Object;" } : Jvm.MethodName) prog_48_method_3_code (3 : Nat) (Option.some (Jvm.ClassFile.FieldType.object "java/lang/Object"))) ∈ lw_all := lw_g (lw_at lw_m4 237 rfl) rfl
theorem q1080 : (Jvm.Cond.classLink "java/util/ArrayDeque$DeqIterator" (32 : Nat) "java/util/NoSuchElementException") ∈ lw_all := lw_g (lw_at lw_m4 238 rfl) rfl
theorem q1081 : (Jvm.Cond.methodLink "java/util/ArrayDeque$DeqIterator" (34 : Nat) ({ cls := "java/util/NoSuchElementException", name := "<init>", desc := "()V" } : Jvm.MethodName)) ∈ lw_all := lw_g (lw_at lw_m4 239 rfl) rfl
theorem q1091 : (Jvm.Cond.methodLink "java/util/ArrayDeque$DeqIterator" (39 : Nat) ({ cls := "java/util/ArrayDeque", name := "nonNullElementAt", desc := "([Ljava/lang/Object;I)Ljava/lang/Object;" } : Jvm.MethodName)) ∈ lw_all := lw_g (lw_at lw_m5 9 rfl) rfl
theorem q1094 : (Jvm.Cond.methodLink "java/util/ArrayDeque$DeqIterator" (43 : Nat) ({ cls := "java/util/ArrayDeque", name := "inc", desc := "(II)I" } : Jvm.MethodName)) ∈ lw_all := lw_g (lw_at lw_m5 12 rfl) rfl
theorem q1695 : (Jvm.Cond.instantiable "java/util/ArrayDeque$DeqIterator" (4 : Nat)) ∈ lw_all := lw_g (lw_at lw_m7 133 rfl) rfl
theorem q1697 : (Jvm.Cond.instanceMethod ({ cls := "java/util/ArrayDeque$DeqIterator", name := "<init>", desc := "(Ljava/util/ArrayDeque;)V" } : Jvm.MethodName)) ∈ lw_all := lw_g (lw_at lw_m7 135 rfl) rfl
theorem q1698 : (Jvm.Cond.code ({ cls := "java/util/ArrayDeque$DeqIterator", name := "<init>", desc := "(Ljava/util/ArrayDeque;)V" } : Jvm.MethodName) prog_48_method_1_code (2 : Nat) (Option.none : Option Jvm.ClassFile.FieldType)) ∈ lw_all := lw_g (lw_at lw_m7 136 rfl) rfl
theorem q1699 : (Jvm.Cond.methodLink "java/util/ArrayDeque$DeqIterator" (7 : Nat) ({ cls := "java/lang/Object", name := "<init>", desc := "()V" } : Jvm.MethodName)) ∈ lw_all := lw_g (lw_at lw_m7 137 rfl) rfl
theorem q1700 : (Jvm.Cond.methodLink "java/util/ArrayDeque$DeqIterator" (13 : Nat) ({ cls := "java/util/ArrayDeque", name := "size", desc := "()I" } : Jvm.MethodName)) ∈ lw_all := lw_g (lw_at lw_m7 138 rfl) rfl
theorem q1707 : (Jvm.Cond.fieldLink "java/util/ArrayDeque$DeqIterator" (29 : Nat) "java/util/ArrayDeque$DeqIterator" "cursor" "I") ∈ lw_all := lw_g (lw_at lw_m7 145 rfl) rfl
theorem q1708 : (Jvm.Cond.fieldLink "java/util/ArrayDeque$DeqIterator" (19 : Nat) "java/util/ArrayDeque$DeqIterator" "remaining" "I") ∈ lw_all := lw_g (lw_at lw_m7 146 rfl) rfl
theorem q1709 : (Jvm.Cond.fieldLink "java/util/ArrayDeque$DeqIterator" (23 : Nat) "java/util/ArrayDeque$DeqIterator" "lastRet" "I") ∈ lw_all := lw_g (lw_at lw_m7 147 rfl) rfl
theorem q1710 : (Jvm.Cond.fieldLink "java/util/ArrayDeque$DeqIterator" (1 : Nat) "java/util/ArrayDeque$DeqIterator" "this$0" "Ljava/util/ArrayDeque;") ∈ lw_all := lw_g (lw_at lw_m7 148 rfl) rfl
theorem q1711 : (Jvm.Cond.lays "java/util/ArrayDeque$DeqIterator" "java/util/ArrayDeque$DeqIterator" "cursor" "I") ∈ lw_all := lw_g (lw_at lw_m7 149 rfl) rfl
theorem q1712 : (Jvm.Cond.soleField "java/util/ArrayDeque$DeqIterator" "cursor") ∈ lw_all := lw_g (lw_at lw_m7 150 rfl) rfl
theorem q1713 : (Jvm.Cond.lays "java/util/ArrayDeque$DeqIterator" "java/util/ArrayDeque$DeqIterator" "remaining" "I") ∈ lw_all := lw_g (lw_at lw_m7 151 rfl) rfl
theorem q1714 : (Jvm.Cond.soleField "java/util/ArrayDeque$DeqIterator" "remaining") ∈ lw_all := lw_g (lw_at lw_m7 152 rfl) rfl
theorem q1715 : (Jvm.Cond.lays "java/util/ArrayDeque$DeqIterator" "java/util/ArrayDeque$DeqIterator" "lastRet" "I") ∈ lw_all := lw_g (lw_at lw_m7 153 rfl) rfl
theorem q1716 : (Jvm.Cond.soleField "java/util/ArrayDeque$DeqIterator" "lastRet") ∈ lw_all := lw_g (lw_at lw_m7 154 rfl) rfl
theorem q1717 : (Jvm.Cond.laysFinal "java/util/ArrayDeque$DeqIterator" "java/util/ArrayDeque$DeqIterator" "this$0" "Ljava/util/ArrayDeque;") ∈ lw_all := lw_g (lw_at lw_m7 155 rfl) rfl
theorem q1718 : (Jvm.Cond.soleField "java/util/ArrayDeque$DeqIterator" "this$0") ∈ lw_all := lw_g (lw_at lw_m7 156 rfl) rfl
theorem q1719 : (Jvm.Cond.superclass "java/util/ArrayDeque$DeqIterator" "java/lang/Object") ∈ lw_all := lw_g (lw_at lw_m7 157 rfl) rfl
theorem q2031 : (Jvm.Cond.selects "java/util/ArrayDeque$DeqIterator" ({ cls := "java/util/Iterator", name := "remove", desc := "()V" } : Jvm.MethodName) ({ cls := "java/util/ArrayDeque$DeqIterator", name := "remove", desc := "()V" } : Jvm.MethodName)) ∈ lw_all := lw_g (lw_at lw_m8 229 rfl) rfl
theorem q2032 : (Jvm.Cond.unhidden "java/util/ArrayDeque$DeqIterator" "remove" "()V") ∈ lw_tbl := lw_at lw_m8 230 rfl
theorem q2033 : (Jvm.Cond.instanceMethod ({ cls := "java/util/ArrayDeque$DeqIterator", name := "remove", desc := "()V" } : Jvm.MethodName)) ∈ lw_all := lw_g (lw_at lw_m8 231 rfl) rfl
theorem q2034 : (Jvm.Cond.publicMethod ({ cls := "java/util/ArrayDeque$DeqIterator", name := "remove", desc := "()V" } : Jvm.MethodName)) ∈ lw_tbl := lw_at lw_m8 232 rfl
theorem q2035 : (Jvm.Cond.code ({ cls := "java/util/ArrayDeque$DeqIterator", name := "remove", desc := "()V" } : Jvm.MethodName) prog_48_method_5_code (1 : Nat) (Option.none : Option Jvm.ClassFile.FieldType)) ∈ lw_all := lw_g (lw_at lw_m8 233 rfl) rfl
theorem q2036 : (Jvm.Cond.methodLink "java/util/ArrayDeque$DeqIterator" (53 : Nat) ({ cls := "java/util/ArrayDeque", name := "delete", desc := "(I)Z" } : Jvm.MethodName)) ∈ lw_all := lw_g (lw_at lw_m8 234 rfl) rfl
theorem q2040 : (Jvm.Cond.methodLink "java/util/ArrayDeque$DeqIterator" (57 : Nat) ({ cls := "java/util/ArrayDeque$DeqIterator", name := "postDelete", desc := "(Z)V" } : Jvm.MethodName)) ∈ lw_all := lw_g (lw_at lw_m8 238 rfl) rfl
theorem q2041 : (Jvm.Cond.instanceMethod ({ cls := "java/util/ArrayDeque$DeqIterator", name := "postDelete", desc := "(Z)V" } : Jvm.MethodName)) ∈ lw_all := lw_g (lw_at lw_m8 239 rfl) rfl
theorem q2042 : (Jvm.Cond.selects "java/util/ArrayDeque$DeqIterator" ({ cls := "java/util/ArrayDeque$DeqIterator", name := "postDelete", desc := "(Z)V" } : Jvm.MethodName) ({ cls := "java/util/ArrayDeque$DeqIterator", name := "postDelete", desc := "(Z)V" } : Jvm.MethodName)) ∈ lw_all := lw_g (lw_at lw_m9 0 rfl) rfl
theorem q2043 : (Jvm.Cond.code ({ cls := "java/util/ArrayDeque$DeqIterator", name := "postDelete", desc := "(Z)V" } : Jvm.MethodName) prog_48_method_4_code (2 : Nat) (Option.none : Option Jvm.ClassFile.FieldType)) ∈ lw_all := lw_g (lw_at lw_m9 1 rfl) rfl
theorem q2044 : (Jvm.Cond.methodLink "java/util/ArrayDeque$DeqIterator" (47 : Nat) ({ cls := "java/util/ArrayDeque", name := "dec", desc := "(II)I" } : Jvm.MethodName)) ∈ lw_all := lw_g (lw_at lw_m9 2 rfl) rfl
theorem q2992 : (Jvm.Cond.castable "java/util/ArrayDeque$DeqIterator" "java/lang/Object") ∈ lw_tbl := lw_at lw_m12 230 rfl

abbrev cJ33_init : ByteArray := prog_26_method_1_code
def yJ33_init : MethodName := ⟨RJ33, "<init>", "()V"⟩
theorem dJ33_init_0 : decode cJ33_init 0 = .ok (.aload_n 0, 1) := by decide +kernel
theorem dJ33_init_1 : decode cJ33_init 1 = .ok (.invokespecial 1, 3) := by decide +kernel
theorem dJ33_init_4 : decode cJ33_init 4 = .ok (.return_, 1) := by decide +kernel
theorem q173 : (Jvm.Cond.initialized "java/lang/IllegalStateException") ∈ lw_all := lw_g (lw_at lw_m1 51 rfl) rfl
theorem q232 : (Jvm.Cond.selects "java/lang/IllegalStateException" ({ cls := "java/lang/Object", name := "getClass", desc := "()Ljava/lang/Class;" } : Jvm.MethodName) ({ cls := "java/lang/Object", name := "getClass", desc := "()Ljava/lang/Class;" } : Jvm.MethodName)) ∈ lw_all := lw_g (lw_at lw_m1 110 rfl) rfl
theorem q638 : (Jvm.Cond.selects "java/lang/IllegalStateException" ({ cls := "java/lang/Throwable", name := "fillInStackTrace", desc := "()Ljava/lang/Throwable;" } : Jvm.MethodName) ({ cls := "java/lang/Throwable", name := "fillInStackTrace", desc := "()Ljava/lang/Throwable;" } : Jvm.MethodName)) ∈ lw_all := lw_g (lw_at lw_m3 36 rfl) rfl
theorem q1042 : (Jvm.Cond.selects "java/lang/IllegalStateException" ({ cls := "java/lang/Throwable", name := "toString", desc := "()Ljava/lang/String;" } : Jvm.MethodName) ({ cls := "java/lang/Throwable", name := "toString", desc := "()Ljava/lang/String;" } : Jvm.MethodName)) ∈ lw_all := lw_g (lw_at lw_m4 200 rfl) rfl
theorem q1053 : (Jvm.Cond.selects "java/lang/IllegalStateException" ({ cls := "java/lang/Throwable", name := "getLocalizedMessage", desc := "()Ljava/lang/String;" } : Jvm.MethodName) ({ cls := "java/lang/Throwable", name := "getLocalizedMessage", desc := "()Ljava/lang/String;" } : Jvm.MethodName)) ∈ lw_all := lw_g (lw_at lw_m4 211 rfl) rfl
theorem q1063 : (Jvm.Cond.selects "java/lang/IllegalStateException" ({ cls := "java/lang/Throwable", name := "getMessage", desc := "()Ljava/lang/String;" } : Jvm.MethodName) ({ cls := "java/lang/Throwable", name := "getMessage", desc := "()Ljava/lang/String;" } : Jvm.MethodName)) ∈ lw_all := lw_g (lw_at lw_m4 221 rfl) rfl
theorem q1991 : (Jvm.Cond.instantiable "java/lang/IllegalStateException" (6 : Nat)) ∈ lw_all := lw_g (lw_at lw_m8 189 rfl) rfl
theorem q1992 : (Jvm.Cond.castable "java/lang/IllegalStateException" "java/lang/IllegalStateException") ∈ lw_tbl := lw_at lw_m8 190 rfl
theorem q1993 : (Jvm.Cond.selects "java/lang/IllegalStateException" ({ cls := "java/lang/Throwable", name := "fillInStackTrace", desc := "(I)Ljava/lang/Throwable;" } : Jvm.MethodName) ({ cls := "java/lang/Throwable", name := "fillInStackTrace", desc := "(I)Ljava/lang/Throwable;" } : Jvm.MethodName)) ∈ lw_all := lw_g (lw_at lw_m8 191 rfl) rfl
theorem q1994 : (Jvm.Cond.lays "java/lang/IllegalStateException" "java/lang/Throwable" "cause" "Ljava/lang/Throwable;") ∈ lw_all := lw_g (lw_at lw_m8 192 rfl) rfl
theorem q1995 : (Jvm.Cond.lays "java/lang/IllegalStateException" "java/lang/Throwable" "stackTrace" "[Ljava/lang/StackTraceElement;") ∈ lw_all := lw_g (lw_at lw_m8 193 rfl) rfl
theorem q1996 : (Jvm.Cond.lays "java/lang/IllegalStateException" "java/lang/Throwable" "suppressedExceptions" "Ljava/util/List;") ∈ lw_all := lw_g (lw_at lw_m8 194 rfl) rfl
theorem q1997 : (Jvm.Cond.lays "java/lang/IllegalStateException" "java/lang/Throwable" "detailMessage" "Ljava/lang/String;") ∈ lw_all := lw_g (lw_at lw_m8 195 rfl) rfl
theorem q1998 : (Jvm.Cond.lays "java/lang/IllegalStateException" "java/lang/Throwable" "backtrace" "Ljava/lang/Object;") ∈ lw_all := lw_g (lw_at lw_m8 196 rfl) rfl
theorem q2000 : (Jvm.Cond.instanceMethod ({ cls := "java/lang/IllegalStateException", name := "<init>", desc := "()V" } : Jvm.MethodName)) ∈ lw_all := lw_g (lw_at lw_m8 198 rfl) rfl
theorem q2001 : (Jvm.Cond.code ({ cls := "java/lang/IllegalStateException", name := "<init>", desc := "()V" } : Jvm.MethodName) prog_26_method_1_code (1 : Nat) (Option.none : Option Jvm.ClassFile.FieldType)) ∈ lw_all := lw_g (lw_at lw_m8 199 rfl) rfl
theorem q2002 : (Jvm.Cond.methodLink "java/lang/IllegalStateException" (1 : Nat) ({ cls := "java/lang/RuntimeException", name := "<init>", desc := "()V" } : Jvm.MethodName)) ∈ lw_all := lw_g (lw_at lw_m8 200 rfl) rfl
theorem q2003 : (Jvm.Cond.lays "java/lang/IllegalStateException" "java/lang/Throwable" "depth" "I") ∈ lw_all := lw_g (lw_at lw_m8 201 rfl) rfl
theorem q2004 : (Jvm.Cond.superclass "java/lang/IllegalStateException" "java/lang/RuntimeException") ∈ lw_all := lw_g (lw_at lw_m8 202 rfl) rfl
theorem q2994 : (Jvm.Cond.castable "java/lang/IllegalStateException" "java/lang/Object") ∈ lw_tbl := lw_at lw_m12 232 rfl

abbrev cJ34_init : ByteArray := prog_53_method_1_code
def yJ34_init : MethodName := ⟨RJ34, "<init>", "()V"⟩
theorem dJ34_init_0 : decode cJ34_init 0 = .ok (.aload_n 0, 1) := by decide +kernel
theorem dJ34_init_1 : decode cJ34_init 1 = .ok (.invokespecial 1, 3) := by decide +kernel
theorem dJ34_init_4 : decode cJ34_init 4 = .ok (.return_, 1) := by decide +kernel
theorem q174 : (Jvm.Cond.initialized "java/util/ConcurrentModificationException") ∈ lw_all := lw_g (lw_at lw_m1 52 rfl) rfl
theorem q240 : (Jvm.Cond.selects "java/util/ConcurrentModificationException" ({ cls := "java/lang/Object", name := "getClass", desc := "()Ljava/lang/Class;" } : Jvm.MethodName) ({ cls := "java/lang/Object", name := "getClass", desc := "()Ljava/lang/Class;" } : Jvm.MethodName)) ∈ lw_all := lw_g (lw_at lw_m1 118 rfl) rfl
theorem q639 : (Jvm.Cond.selects "java/util/ConcurrentModificationException" ({ cls := "java/lang/Throwable", name := "fillInStackTrace", desc := "()Ljava/lang/Throwable;" } : Jvm.MethodName) ({ cls := "java/lang/Throwable", name := "fillInStackTrace", desc := "()Ljava/lang/Throwable;" } : Jvm.MethodName)) ∈ lw_all := lw_g (lw_at lw_m3 37 rfl) rfl
theorem q1044 : (Jvm.Cond.selects "java/util/ConcurrentModificationException" ({ cls := "java/lang/Throwable", name := "toString", desc := "()Ljava/lang/String;" } : Jvm.MethodName) ({ cls := "java/lang/Throwable", name := "toString", desc := "()Ljava/lang/String;" } : Jvm.MethodName)) ∈ lw_all := lw_g (lw_at lw_m4 202 rfl) rfl
theorem q1055 : (Jvm.Cond.selects "java/util/ConcurrentModificationException" ({ cls := "java/lang/Throwable", name := "getLocalizedMessage", desc := "()Ljava/lang/String;" } : Jvm.MethodName) ({ cls := "java/lang/Throwable", name := "getLocalizedMessage", desc := "()Ljava/lang/String;" } : Jvm.MethodName)) ∈ lw_all := lw_g (lw_at lw_m4 213 rfl) rfl
theorem q1065 : (Jvm.Cond.selects "java/util/ConcurrentModificationException" ({ cls := "java/lang/Throwable", name := "getMessage", desc := "()Ljava/lang/String;" } : Jvm.MethodName) ({ cls := "java/lang/Throwable", name := "getMessage", desc := "()Ljava/lang/String;" } : Jvm.MethodName)) ∈ lw_all := lw_g (lw_at lw_m4 223 rfl) rfl
theorem q2017 : (Jvm.Cond.instantiable "java/util/ConcurrentModificationException" (6 : Nat)) ∈ lw_all := lw_g (lw_at lw_m8 215 rfl) rfl
theorem q2018 : (Jvm.Cond.castable "java/util/ConcurrentModificationException" "java/util/ConcurrentModificationException") ∈ lw_tbl := lw_at lw_m8 216 rfl
theorem q2019 : (Jvm.Cond.selects "java/util/ConcurrentModificationException" ({ cls := "java/lang/Throwable", name := "fillInStackTrace", desc := "(I)Ljava/lang/Throwable;" } : Jvm.MethodName) ({ cls := "java/lang/Throwable", name := "fillInStackTrace", desc := "(I)Ljava/lang/Throwable;" } : Jvm.MethodName)) ∈ lw_all := lw_g (lw_at lw_m8 217 rfl) rfl
theorem q2020 : (Jvm.Cond.lays "java/util/ConcurrentModificationException" "java/lang/Throwable" "cause" "Ljava/lang/Throwable;") ∈ lw_all := lw_g (lw_at lw_m8 218 rfl) rfl
theorem q2021 : (Jvm.Cond.lays "java/util/ConcurrentModificationException" "java/lang/Throwable" "stackTrace" "[Ljava/lang/StackTraceElement;") ∈ lw_all := lw_g (lw_at lw_m8 219 rfl) rfl
theorem q2022 : (Jvm.Cond.lays "java/util/ConcurrentModificationException" "java/lang/Throwable" "suppressedExceptions" "Ljava/util/List;") ∈ lw_all := lw_g (lw_at lw_m8 220 rfl) rfl
theorem q2023 : (Jvm.Cond.lays "java/util/ConcurrentModificationException" "java/lang/Throwable" "detailMessage" "Ljava/lang/String;") ∈ lw_all := lw_g (lw_at lw_m8 221 rfl) rfl
theorem q2024 : (Jvm.Cond.lays "java/util/ConcurrentModificationException" "java/lang/Throwable" "backtrace" "Ljava/lang/Object;") ∈ lw_all := lw_g (lw_at lw_m8 222 rfl) rfl
theorem q2026 : (Jvm.Cond.instanceMethod ({ cls := "java/util/ConcurrentModificationException", name := "<init>", desc := "()V" } : Jvm.MethodName)) ∈ lw_all := lw_g (lw_at lw_m8 224 rfl) rfl
theorem q2027 : (Jvm.Cond.code ({ cls := "java/util/ConcurrentModificationException", name := "<init>", desc := "()V" } : Jvm.MethodName) prog_53_method_1_code (1 : Nat) (Option.none : Option Jvm.ClassFile.FieldType)) ∈ lw_all := lw_g (lw_at lw_m8 225 rfl) rfl
theorem q2028 : (Jvm.Cond.methodLink "java/util/ConcurrentModificationException" (1 : Nat) ({ cls := "java/lang/RuntimeException", name := "<init>", desc := "()V" } : Jvm.MethodName)) ∈ lw_all := lw_g (lw_at lw_m8 226 rfl) rfl
theorem q2029 : (Jvm.Cond.lays "java/util/ConcurrentModificationException" "java/lang/Throwable" "depth" "I") ∈ lw_all := lw_g (lw_at lw_m8 227 rfl) rfl
theorem q2030 : (Jvm.Cond.superclass "java/util/ConcurrentModificationException" "java/lang/RuntimeException") ∈ lw_all := lw_g (lw_at lw_m8 228 rfl) rfl
theorem q2995 : (Jvm.Cond.castable "java/util/ConcurrentModificationException" "java/lang/Object") ∈ lw_tbl := lw_at lw_m12 233 rfl

abbrev cJ35_bitCount : ByteArray := prog_30_method_50_code
def yJ35_bitCount : MethodName := ⟨RJ35, "bitCount", "(J)I"⟩
def dkwJ35_bitCount_2 : List UInt8 := [30, 30, 16, 32, 125, 97, 63, 30, 136, 16, 127, 126, 172]
abbrev dktJ35_bitCount_2 : List UInt8 := dkwJ35_bitCount_2 ++ []
def dkwJ35_bitCount_1 : List UInt8 := [30, 30, 7, 125, 97, 20, 1, 62, 127, 63, 30, 30, 16, 8, 125, 97, 63, 30, 30, 16, 16, 125, 97, 63]
abbrev dktJ35_bitCount_1 : List UInt8 := dkwJ35_bitCount_1 ++ dktJ35_bitCount_2
def dkwJ35_bitCount_0 : List UInt8 := [30, 30, 4, 125, 20, 1, 58, 127, 101, 63, 30, 20, 1, 60, 127, 30, 5, 125, 20, 1, 60, 127, 97, 63]
abbrev dktJ35_bitCount_0 : List UInt8 := dkwJ35_bitCount_0 ++ dktJ35_bitCount_1
theorem dksJ35_bitCount_0 : cJ35_bitCount.data.toList.drop 0 = dktJ35_bitCount_0 := by decide +kernel
theorem dksJ35_bitCount_1 : cJ35_bitCount.data.toList.drop 24 = dktJ35_bitCount_1 := dk_seg dksJ35_bitCount_0 24 rfl rfl
theorem dksJ35_bitCount_2 : cJ35_bitCount.data.toList.drop 48 = dktJ35_bitCount_2 := dk_seg dksJ35_bitCount_1 24 rfl rfl
theorem dJ35_bitCount_0 : decode cJ35_bitCount 0 = .ok (.lload_n 0, 1) := dk_30 (dk_at dksJ35_bitCount_0 0 rfl rfl)
theorem dJ35_bitCount_1 : decode cJ35_bitCount 1 = .ok (.lload_n 0, 1) := dk_30 (dk_at dksJ35_bitCount_0 1 rfl rfl)
theorem dJ35_bitCount_2 : decode cJ35_bitCount 2 = .ok (.iconst 1, 1) := dk_4 (dk_at dksJ35_bitCount_0 2 rfl rfl)
theorem dJ35_bitCount_3 : decode cJ35_bitCount 3 = .ok (.lushr, 1) := dk_125 (dk_at dksJ35_bitCount_0 3 rfl rfl)
theorem dJ35_bitCount_4 : decode cJ35_bitCount 4 = .ok (.ldc2_w 314, 3) := dk_20 1 58 (dk_at dksJ35_bitCount_0 4 rfl rfl)
theorem dJ35_bitCount_7 : decode cJ35_bitCount 7 = .ok (.land, 1) := dk_127 (dk_at dksJ35_bitCount_0 7 rfl rfl)
theorem dJ35_bitCount_8 : decode cJ35_bitCount 8 = .ok (.lsub, 1) := dk_101 (dk_at dksJ35_bitCount_0 8 rfl rfl)
theorem dJ35_bitCount_9 : decode cJ35_bitCount 9 = .ok (.lstore_n 0, 1) := dk_63 (dk_at dksJ35_bitCount_0 9 rfl rfl)
theorem dJ35_bitCount_10 : decode cJ35_bitCount 10 = .ok (.lload_n 0, 1) := dk_30 (dk_at dksJ35_bitCount_0 10 rfl rfl)
theorem dJ35_bitCount_11 : decode cJ35_bitCount 11 = .ok (.ldc2_w 316, 3) := dk_20 1 60 (dk_at dksJ35_bitCount_0 11 rfl rfl)
theorem dJ35_bitCount_14 : decode cJ35_bitCount 14 = .ok (.land, 1) := dk_127 (dk_at dksJ35_bitCount_0 14 rfl rfl)
theorem dJ35_bitCount_15 : decode cJ35_bitCount 15 = .ok (.lload_n 0, 1) := dk_30 (dk_at dksJ35_bitCount_0 15 rfl rfl)
theorem dJ35_bitCount_16 : decode cJ35_bitCount 16 = .ok (.iconst 2, 1) := dk_5 (dk_at dksJ35_bitCount_0 16 rfl rfl)
theorem dJ35_bitCount_17 : decode cJ35_bitCount 17 = .ok (.lushr, 1) := dk_125 (dk_at dksJ35_bitCount_0 17 rfl rfl)
theorem dJ35_bitCount_18 : decode cJ35_bitCount 18 = .ok (.ldc2_w 316, 3) := dk_20 1 60 (dk_at dksJ35_bitCount_0 18 rfl rfl)
theorem dJ35_bitCount_21 : decode cJ35_bitCount 21 = .ok (.land, 1) := dk_127 (dk_at dksJ35_bitCount_0 21 rfl rfl)
theorem dJ35_bitCount_22 : decode cJ35_bitCount 22 = .ok (.ladd, 1) := dk_97 (dk_at dksJ35_bitCount_0 22 rfl rfl)
theorem dJ35_bitCount_23 : decode cJ35_bitCount 23 = .ok (.lstore_n 0, 1) := dk_63 (dk_at dksJ35_bitCount_0 23 rfl rfl)
theorem dJ35_bitCount_24 : decode cJ35_bitCount 24 = .ok (.lload_n 0, 1) := dk_30 (dk_at dksJ35_bitCount_1 0 rfl rfl)
theorem dJ35_bitCount_25 : decode cJ35_bitCount 25 = .ok (.lload_n 0, 1) := dk_30 (dk_at dksJ35_bitCount_1 1 rfl rfl)
theorem dJ35_bitCount_26 : decode cJ35_bitCount 26 = .ok (.iconst 4, 1) := dk_7 (dk_at dksJ35_bitCount_1 2 rfl rfl)
theorem dJ35_bitCount_27 : decode cJ35_bitCount 27 = .ok (.lushr, 1) := dk_125 (dk_at dksJ35_bitCount_1 3 rfl rfl)
theorem dJ35_bitCount_28 : decode cJ35_bitCount 28 = .ok (.ladd, 1) := dk_97 (dk_at dksJ35_bitCount_1 4 rfl rfl)
theorem dJ35_bitCount_29 : decode cJ35_bitCount 29 = .ok (.ldc2_w 318, 3) := dk_20 1 62 (dk_at dksJ35_bitCount_1 5 rfl rfl)
theorem dJ35_bitCount_32 : decode cJ35_bitCount 32 = .ok (.land, 1) := dk_127 (dk_at dksJ35_bitCount_1 8 rfl rfl)
theorem dJ35_bitCount_33 : decode cJ35_bitCount 33 = .ok (.lstore_n 0, 1) := dk_63 (dk_at dksJ35_bitCount_1 9 rfl rfl)
theorem dJ35_bitCount_34 : decode cJ35_bitCount 34 = .ok (.lload_n 0, 1) := dk_30 (dk_at dksJ35_bitCount_1 10 rfl rfl)
theorem dJ35_bitCount_35 : decode cJ35_bitCount 35 = .ok (.lload_n 0, 1) := dk_30 (dk_at dksJ35_bitCount_1 11 rfl rfl)
theorem dJ35_bitCount_36 : decode cJ35_bitCount 36 = .ok (.bipush 8, 2) := dk_16 8 (dk_at dksJ35_bitCount_1 12 rfl rfl)
theorem dJ35_bitCount_38 : decode cJ35_bitCount 38 = .ok (.lushr, 1) := dk_125 (dk_at dksJ35_bitCount_1 14 rfl rfl)
theorem dJ35_bitCount_39 : decode cJ35_bitCount 39 = .ok (.ladd, 1) := dk_97 (dk_at dksJ35_bitCount_1 15 rfl rfl)
theorem dJ35_bitCount_40 : decode cJ35_bitCount 40 = .ok (.lstore_n 0, 1) := dk_63 (dk_at dksJ35_bitCount_1 16 rfl rfl)
theorem dJ35_bitCount_41 : decode cJ35_bitCount 41 = .ok (.lload_n 0, 1) := dk_30 (dk_at dksJ35_bitCount_1 17 rfl rfl)
theorem dJ35_bitCount_42 : decode cJ35_bitCount 42 = .ok (.lload_n 0, 1) := dk_30 (dk_at dksJ35_bitCount_1 18 rfl rfl)
theorem dJ35_bitCount_43 : decode cJ35_bitCount 43 = .ok (.bipush 16, 2) := dk_16 16 (dk_at dksJ35_bitCount_1 19 rfl rfl)
theorem dJ35_bitCount_45 : decode cJ35_bitCount 45 = .ok (.lushr, 1) := dk_125 (dk_at dksJ35_bitCount_1 21 rfl rfl)
theorem dJ35_bitCount_46 : decode cJ35_bitCount 46 = .ok (.ladd, 1) := dk_97 (dk_at dksJ35_bitCount_1 22 rfl rfl)
theorem dJ35_bitCount_47 : decode cJ35_bitCount 47 = .ok (.lstore_n 0, 1) := dk_63 (dk_at dksJ35_bitCount_1 23 rfl rfl)
theorem dJ35_bitCount_48 : decode cJ35_bitCount 48 = .ok (.lload_n 0, 1) := dk_30 (dk_at dksJ35_bitCount_2 0 rfl rfl)
theorem dJ35_bitCount_49 : decode cJ35_bitCount 49 = .ok (.lload_n 0, 1) := dk_30 (dk_at dksJ35_bitCount_2 1 rfl rfl)
theorem dJ35_bitCount_50 : decode cJ35_bitCount 50 = .ok (.bipush 32, 2) := dk_16 32 (dk_at dksJ35_bitCount_2 2 rfl rfl)
theorem dJ35_bitCount_52 : decode cJ35_bitCount 52 = .ok (.lushr, 1) := dk_125 (dk_at dksJ35_bitCount_2 4 rfl rfl)
theorem dJ35_bitCount_53 : decode cJ35_bitCount 53 = .ok (.ladd, 1) := dk_97 (dk_at dksJ35_bitCount_2 5 rfl rfl)
theorem dJ35_bitCount_54 : decode cJ35_bitCount 54 = .ok (.lstore_n 0, 1) := dk_63 (dk_at dksJ35_bitCount_2 6 rfl rfl)
theorem dJ35_bitCount_55 : decode cJ35_bitCount 55 = .ok (.lload_n 0, 1) := dk_30 (dk_at dksJ35_bitCount_2 7 rfl rfl)
theorem dJ35_bitCount_56 : decode cJ35_bitCount 56 = .ok (.l2i, 1) := dk_136 (dk_at dksJ35_bitCount_2 8 rfl rfl)
theorem dJ35_bitCount_57 : decode cJ35_bitCount 57 = .ok (.bipush 127, 2) := dk_16 127 (dk_at dksJ35_bitCount_2 9 rfl rfl)
theorem dJ35_bitCount_59 : decode cJ35_bitCount 59 = .ok (.iand, 1) := dk_126 (dk_at dksJ35_bitCount_2 11 rfl rfl)
theorem dJ35_bitCount_60 : decode cJ35_bitCount 60 = .ok (.ireturn, 1) := dk_172 (dk_at dksJ35_bitCount_2 12 rfl rfl)
theorem q175 : (Jvm.Cond.initialized "java/lang/Long") ∈ lw_all := lw_g (lw_at lw_m1 53 rfl) rfl
theorem q2250 : (Jvm.Cond.static ({ cls := "java/lang/Long", name := "bitCount", desc := "(J)I" } : Jvm.MethodName)) ∈ lw_all := lw_g (lw_at lw_m9 208 rfl) rfl
theorem q2251 : (Jvm.Cond.code ({ cls := "java/lang/Long", name := "bitCount", desc := "(J)I" } : Jvm.MethodName) prog_30_method_50_code (2 : Nat) (Option.some Jvm.ClassFile.FieldType.int)) ∈ lw_all := lw_g (lw_at lw_m9 209 rfl) rfl
theorem q2252 : (Jvm.Cond.constantLong "java/lang/Long" (314 : Nat) (6148914691236517205 : Int64)) ∈ lw_all := lw_g (lw_at lw_m9 210 rfl) rfl
theorem q2253 : (Jvm.Cond.constantLong "java/lang/Long" (316 : Nat) (3689348814741910323 : Int64)) ∈ lw_all := lw_g (lw_at lw_m9 211 rfl) rfl
theorem q2254 : (Jvm.Cond.constantLong "java/lang/Long" (318 : Nat) (1085102592571150095 : Int64)) ∈ lw_all := lw_g (lw_at lw_m9 212 rfl) rfl

abbrev cJ36_init : ByteArray := object_method_1_code
def yJ36_init : MethodName := ⟨RJ36, "<init>", "()V"⟩
theorem dJ36_init_0 : decode cJ36_init 0 = .ok (.return_, 1) := by decide +kernel
theorem q182 : (Jvm.Cond.instanceMethod ({ cls := "java/lang/Object", name := "<init>", desc := "()V" } : Jvm.MethodName)) ∈ lw_all := lw_g (lw_at lw_m1 60 rfl) rfl
theorem q183 : (Jvm.Cond.code ({ cls := "java/lang/Object", name := "<init>", desc := "()V" } : Jvm.MethodName) object_method_1_code (1 : Nat) (Option.none : Option Jvm.ClassFile.FieldType)) ∈ lw_all := lw_g (lw_at lw_m1 61 rfl) rfl
theorem q215 : (Jvm.Cond.instanceMethod ({ cls := "java/lang/Object", name := "getClass", desc := "()Ljava/lang/Class;" } : Jvm.MethodName)) ∈ lw_all := lw_g (lw_at lw_m1 93 rfl) rfl
theorem q216 : (Jvm.Cond.sameMethod "java/lang/Object" "java/lang/Object" "getClass" "()Ljava/lang/Class;") ∈ lw_all := lw_g (lw_at lw_m1 94 rfl) rfl
theorem q247 : (Jvm.Cond.native ({ cls := "java/lang/Object", name := "getClass", desc := "()Ljava/lang/Class;" } : Jvm.MethodName)) ∈ lw_all := lw_g (lw_at lw_m1 125 rfl) rfl
theorem q716 : (Jvm.Cond.native ({ cls := "java/lang/Object", name := "clone", desc := "()Ljava/lang/Object;" } : Jvm.MethodName)) ∈ lw_all := lw_g (lw_at lw_m3 114 rfl) rfl
theorem q717 : (Jvm.Cond.instanceMethod ({ cls := "java/lang/Object", name := "clone", desc := "()Ljava/lang/Object;" } : Jvm.MethodName)) ∈ lw_all := lw_g (lw_at lw_m3 115 rfl) rfl
theorem q2963 : (Jvm.Cond.initialized "java/lang/Object") ∈ lw_all := lw_g (lw_at lw_m12 201 rfl) rfl
theorem q2999 : (Jvm.Cond.declares ({ cls := "java/lang/Object", name := "getClass", desc := "()Ljava/lang/Class;" } : Jvm.MethodName)) ∈ lw_tbl := lw_at lw_m12 237 rfl

