set_option maxRecDepth 100000
abbrev cX0_trader : ByteArray := method_3_code
def yX0_trader : MethodName := ⟨RX0, "trader", "(LExemptDesk;II[J)I"⟩
def dkwX0_trader_0 : List UInt8 := [45, 3, 42, 27, 28, 182, 0, 7, 133, 80, 167, 0, 11, 58, 4, 4, 172, 58, 4, 5, 172, 3, 172]
abbrev dktX0_trader_0 : List UInt8 := dkwX0_trader_0 ++ []
theorem dksX0_trader_0 : cX0_trader.data.toList.drop 0 = dktX0_trader_0 := by decide +kernel
theorem dX0_trader_0 : decode cX0_trader 0 = .ok (.aload_n 3, 1) := dk_45 (dk_at dksX0_trader_0 0 rfl rfl)
theorem dX0_trader_1 : decode cX0_trader 1 = .ok (.iconst 0, 1) := dk_3 (dk_at dksX0_trader_0 1 rfl rfl)
theorem dX0_trader_2 : decode cX0_trader 2 = .ok (.aload_n 0, 1) := dk_42 (dk_at dksX0_trader_0 2 rfl rfl)
theorem dX0_trader_3 : decode cX0_trader 3 = .ok (.iload_n 1, 1) := dk_27 (dk_at dksX0_trader_0 3 rfl rfl)
theorem dX0_trader_4 : decode cX0_trader 4 = .ok (.iload_n 2, 1) := dk_28 (dk_at dksX0_trader_0 4 rfl rfl)
theorem dX0_trader_5 : decode cX0_trader 5 = .ok (.invokevirtual 7, 3) := dk_182 0 7 (dk_at dksX0_trader_0 5 rfl rfl)
theorem dX0_trader_8 : decode cX0_trader 8 = .ok (.i2l, 1) := dk_133 (dk_at dksX0_trader_0 8 rfl rfl)
theorem dX0_trader_9 : decode cX0_trader 9 = .ok (.lastore, 1) := dk_80 (dk_at dksX0_trader_0 9 rfl rfl)
theorem dX0_trader_10 : decode cX0_trader 10 = .ok (.goto 11, 3) := dk_167 0 11 (dk_at dksX0_trader_0 10 rfl rfl)
theorem dX0_trader_13 : decode cX0_trader 13 = .ok (.astore 4, 2) := dk_58 4 (dk_at dksX0_trader_0 13 rfl rfl)
theorem dX0_trader_15 : decode cX0_trader 15 = .ok (.iconst 1, 1) := dk_4 (dk_at dksX0_trader_0 15 rfl rfl)
theorem dX0_trader_16 : decode cX0_trader 16 = .ok (.ireturn, 1) := dk_172 (dk_at dksX0_trader_0 16 rfl rfl)
theorem dX0_trader_17 : decode cX0_trader 17 = .ok (.astore 4, 2) := dk_58 4 (dk_at dksX0_trader_0 17 rfl rfl)
theorem dX0_trader_19 : decode cX0_trader 19 = .ok (.iconst 2, 1) := dk_5 (dk_at dksX0_trader_0 19 rfl rfl)
theorem dX0_trader_20 : decode cX0_trader 20 = .ok (.ireturn, 1) := dk_172 (dk_at dksX0_trader_0 20 rfl rfl)
theorem dX0_trader_21 : decode cX0_trader 21 = .ok (.iconst 0, 1) := dk_3 (dk_at dksX0_trader_0 21 rfl rfl)
theorem dX0_trader_22 : decode cX0_trader 22 = .ok (.ireturn, 1) := dk_172 (dk_at dksX0_trader_0 22 rfl rfl)
theorem q122 : (Jvm.Cond.initialized "ExemptDeskLaw") ∈ lw_all := lw_g (lw_at lw_m1 0 rfl) rfl
theorem q176 : (Jvm.Cond.classLink "ExemptDeskLaw" (8 : Nat) "ExemptDesk") ∈ lw_all := lw_g (lw_at lw_m1 54 rfl) rfl
theorem q178 : (Jvm.Cond.methodLink "ExemptDeskLaw" (17 : Nat) ({ cls := "ExemptDesk", name := "<init>", desc := "()V" } : Jvm.MethodName)) ∈ lw_all := lw_g (lw_at lw_m1 56 rfl) rfl
theorem q1295 : (Jvm.Cond.methodLink "ExemptDeskLaw" (21 : Nat) ({ cls := "ExemptDesk", name := "feed", desc := "(IIIII)I" } : Jvm.MethodName)) ∈ lw_all := lw_g (lw_at lw_m5 213 rfl) rfl
theorem q1303 : (Jvm.Cond.methodLink "ExemptDeskLaw" (26 : Nat) ({ cls := "ExemptDesk", name := "text", desc := "(I)I" } : Jvm.MethodName)) ∈ lw_all := lw_g (lw_at lw_m5 221 rfl) rfl
theorem q1553 : (Jvm.Cond.methodLink "ExemptDeskLaw" (31 : Nat) ({ cls := "ExemptDesk", name := "fault", desc := "(I)I" } : Jvm.MethodName)) ∈ lw_all := lw_g (lw_at lw_m6 231 rfl) rfl
theorem q1557 : (Jvm.Cond.methodLink "ExemptDeskLaw" (35 : Nat) ({ cls := "ExemptDesk", name := "named", desc := "(I)I" } : Jvm.MethodName)) ∈ lw_all := lw_g (lw_at lw_m6 235 rfl) rfl
theorem q1562 : (Jvm.Cond.methodLink "ExemptDeskLaw" (49 : Nat) ({ cls := "ExemptDesk", name := "asset", desc := "(II)I" } : Jvm.MethodName)) ∈ lw_all := lw_g (lw_at lw_m7 0 rfl) rfl
theorem q1644 : (Jvm.Cond.methodLink "ExemptDeskLaw" (53 : Nat) ({ cls := "ExemptDesk", name := "sale", desc := "(III)I" } : Jvm.MethodName)) ∈ lw_all := lw_g (lw_at lw_m7 82 rfl) rfl
theorem q1779 : (Jvm.Cond.methodLink "ExemptDeskLaw" (58 : Nat) ({ cls := "ExemptDesk", name := "buy", desc := "(III)I" } : Jvm.MethodName)) ∈ lw_all := lw_g (lw_at lw_m7 217 rfl) rfl
theorem q1785 : (Jvm.Cond.methodLink "ExemptDeskLaw" (62 : Nat) ({ cls := "ExemptDesk", name := "late", desc := "(IIII)I" } : Jvm.MethodName)) ∈ lw_all := lw_g (lw_at lw_m7 223 rfl) rfl
theorem q1790 : (Jvm.Cond.methodLink "ExemptDeskLaw" (67 : Nat) ({ cls := "ExemptDesk", name := "heads", desc := "(III)Z" } : Jvm.MethodName)) ∈ lw_all := lw_g (lw_at lw_m7 228 rfl) rfl
theorem q1795 : (Jvm.Cond.methodLink "ExemptDeskLaw" (72 : Nat) ({ cls := "ExemptDesk", name := "acquire", desc := "(IIII)I" } : Jvm.MethodName)) ∈ lw_all := lw_g (lw_at lw_m7 233 rfl) rfl
theorem q1801 : (Jvm.Cond.methodLink "ExemptDeskLaw" (76 : Nat) ({ cls := "ExemptDesk", name := "use", desc := "(II)Z" } : Jvm.MethodName)) ∈ lw_all := lw_g (lw_at lw_m7 239 rfl) rfl
theorem q1809 : (Jvm.Cond.methodLink "ExemptDeskLaw" (81 : Nat) ({ cls := "ExemptDesk", name := "sell", desc := "(III)I" } : Jvm.MethodName)) ∈ lw_all := lw_g (lw_at lw_m8 7 rfl) rfl
theorem q1818 : (Jvm.Cond.methodLink "ExemptDeskLaw" (85 : Nat) ({ cls := "ExemptDesk", name := "hand", desc := "(II)I" } : Jvm.MethodName)) ∈ lw_all := lw_g (lw_at lw_m8 16 rfl) rfl
theorem q1822 : (Jvm.Cond.methodLink "ExemptDeskLaw" (89 : Nat) ({ cls := "ExemptDesk", name := "close", desc := "(I)I" } : Jvm.MethodName)) ∈ lw_all := lw_g (lw_at lw_m8 20 rfl) rfl
theorem q2051 : (Jvm.Cond.methodLink "ExemptDeskLaw" (93 : Nat) ({ cls := "ExemptDesk", name := "sum", desc := "(III)I" } : Jvm.MethodName)) ∈ lw_all := lw_g (lw_at lw_m9 9 rfl) rfl
theorem q2059 : (Jvm.Cond.methodLink "ExemptDeskLaw" (97 : Nat) ({ cls := "ExemptDesk", name := "provisional", desc := "(II)I" } : Jvm.MethodName)) ∈ lw_all := lw_g (lw_at lw_m9 17 rfl) rfl
theorem q2064 : (Jvm.Cond.methodLink "ExemptDeskLaw" (101 : Nat) ({ cls := "ExemptDesk", name := "recovered", desc := "(II)I" } : Jvm.MethodName)) ∈ lw_all := lw_g (lw_at lw_m9 22 rfl) rfl
theorem q2068 : (Jvm.Cond.methodLink "ExemptDeskLaw" (105 : Nat) ({ cls := "ExemptDesk", name := "annual", desc := "(III)I" } : Jvm.MethodName)) ∈ lw_all := lw_g (lw_at lw_m9 26 rfl) rfl
theorem q2099 : (Jvm.Cond.methodLink "ExemptDeskLaw" (109 : Nat) ({ cls := "ExemptDesk", name := "interval", desc := "(III)I" } : Jvm.MethodName)) ∈ lw_all := lw_g (lw_at lw_m9 57 rfl) rfl
theorem q2104 : (Jvm.Cond.methodLink "ExemptDeskLaw" (113 : Nat) ({ cls := "ExemptDesk", name := "taken", desc := "(I)I" } : Jvm.MethodName)) ∈ lw_all := lw_g (lw_at lw_m9 62 rfl) rfl
theorem q2114 : (Jvm.Cond.methodLink "ExemptDeskLaw" (117 : Nat) ({ cls := "ExemptDesk", name := "last", desc := "(I)I" } : Jvm.MethodName)) ∈ lw_all := lw_g (lw_at lw_m9 72 rfl) rfl
theorem q2118 : (Jvm.Cond.methodLink "ExemptDeskLaw" (121 : Nat) ({ cls := "ExemptDesk", name := "booked", desc := "(II)I" } : Jvm.MethodName)) ∈ lw_all := lw_g (lw_at lw_m9 76 rfl) rfl
theorem q2131 : (Jvm.Cond.methodLink "ExemptDeskLaw" (125 : Nat) ({ cls := "ExemptDesk", name := "total", desc := "(II)I" } : Jvm.MethodName)) ∈ lw_all := lw_g (lw_at lw_m9 89 rfl) rfl
theorem q2135 : (Jvm.Cond.methodLink "ExemptDeskLaw" (129 : Nat) ({ cls := "ExemptDesk", name := "by", desc := "(IIIII)I" } : Jvm.MethodName)) ∈ lw_all := lw_g (lw_at lw_m9 93 rfl) rfl
theorem q2149 : (Jvm.Cond.methodLink "ExemptDeskLaw" (133 : Nat) ({ cls := "ExemptDesk", name := "bestMethod", desc := "(II)I" } : Jvm.MethodName)) ∈ lw_all := lw_g (lw_at lw_m9 107 rfl) rfl
theorem q2166 : (Jvm.Cond.methodLink "ExemptDeskLaw" (137 : Nat) ({ cls := "ExemptDesk", name := "bestStep", desc := "(II)I" } : Jvm.MethodName)) ∈ lw_all := lw_g (lw_at lw_m9 124 rfl) rfl
theorem q2171 : (Jvm.Cond.methodLink "ExemptDeskLaw" (141 : Nat) ({ cls := "ExemptDesk", name := "joint", desc := "(III)I" } : Jvm.MethodName)) ∈ lw_all := lw_g (lw_at lw_m9 129 rfl) rfl
theorem q2177 : (Jvm.Cond.methodLink "ExemptDeskLaw" (145 : Nat) ({ cls := "ExemptDesk", name := "limitFor", desc := "(II)I" } : Jvm.MethodName)) ∈ lw_all := lw_g (lw_at lw_m9 135 rfl) rfl
theorem q2182 : (Jvm.Cond.methodLink "ExemptDeskLaw" (149 : Nat) ({ cls := "ExemptDesk", name := "byBasis", desc := "(III)I" } : Jvm.MethodName)) ∈ lw_all := lw_g (lw_at lw_m9 140 rfl) rfl
theorem q2188 : (Jvm.Cond.methodLink "ExemptDeskLaw" (153 : Nat) ({ cls := "ExemptDesk", name := "leader", desc := "(I)I" } : Jvm.MethodName)) ∈ lw_all := lw_g (lw_at lw_m9 146 rfl) rfl
theorem q2192 : (Jvm.Cond.methodLink "ExemptDeskLaw" (157 : Nat) ({ cls := "ExemptDesk", name := "rise", desc := "(I)I" } : Jvm.MethodName)) ∈ lw_all := lw_g (lw_at lw_m9 150 rfl) rfl
theorem q2197 : (Jvm.Cond.methodLink "ExemptDeskLaw" (161 : Nat) ({ cls := "ExemptDesk", name := "need", desc := "(II)I" } : Jvm.MethodName)) ∈ lw_all := lw_g (lw_at lw_m9 155 rfl) rfl
theorem q2206 : (Jvm.Cond.methodLink "ExemptDeskLaw" (165 : Nat) ({ cls := "ExemptDesk", name := "room", desc := "(II)I" } : Jvm.MethodName)) ∈ lw_all := lw_g (lw_at lw_m9 164 rfl) rfl
theorem q2210 : (Jvm.Cond.methodLink "ExemptDeskLaw" (169 : Nat) ({ cls := "ExemptDesk", name := "would", desc := "(II)I" } : Jvm.MethodName)) ∈ lw_all := lw_g (lw_at lw_m9 168 rfl) rfl
theorem q2223 : (Jvm.Cond.methodLink "ExemptDeskLaw" (173 : Nat) ({ cls := "ExemptDesk", name := "bestWait", desc := "(II)I" } : Jvm.MethodName)) ∈ lw_all := lw_g (lw_at lw_m9 181 rfl) rfl
theorem q2229 : (Jvm.Cond.methodLink "ExemptDeskLaw" (177 : Nat) ({ cls := "ExemptDesk", name := "project", desc := "(II)I" } : Jvm.MethodName)) ∈ lw_all := lw_g (lw_at lw_m9 187 rfl) rfl
theorem q2234 : (Jvm.Cond.methodLink "ExemptDeskLaw" (181 : Nat) ({ cls := "ExemptDesk", name := "ifUse", desc := "(II)I" } : Jvm.MethodName)) ∈ lw_all := lw_g (lw_at lw_m9 192 rfl) rfl
theorem q2238 : (Jvm.Cond.methodLink "ExemptDeskLaw" (185 : Nat) ({ cls := "ExemptDesk", name := "owners", desc := "(I)I" } : Jvm.MethodName)) ∈ lw_all := lw_g (lw_at lw_m9 196 rfl) rfl
theorem q2255 : (Jvm.Cond.methodLink "ExemptDeskLaw" (189 : Nat) ({ cls := "ExemptDesk", name := "even", desc := "(II)I" } : Jvm.MethodName)) ∈ lw_all := lw_g (lw_at lw_m9 213 rfl) rfl
theorem q2260 : (Jvm.Cond.methodLink "ExemptDeskLaw" (193 : Nat) ({ cls := "ExemptDesk", name := "worth", desc := "(I)I" } : Jvm.MethodName)) ∈ lw_all := lw_g (lw_at lw_m9 218 rfl) rfl
theorem q2264 : (Jvm.Cond.methodLink "ExemptDeskLaw" (197 : Nat) ({ cls := "ExemptDesk", name := "tried", desc := "(III)I" } : Jvm.MethodName)) ∈ lw_all := lw_g (lw_at lw_m9 222 rfl) rfl
theorem q2268 : (Jvm.Cond.methodLink "ExemptDeskLaw" (201 : Nat) ({ cls := "ExemptDesk", name := "chance", desc := "(III)I" } : Jvm.MethodName)) ∈ lw_all := lw_g (lw_at lw_m9 226 rfl) rfl
theorem q2282 : (Jvm.Cond.methodLink "ExemptDeskLaw" (205 : Nat) ({ cls := "ExemptDesk", name := "farthest", desc := "(I)I" } : Jvm.MethodName)) ∈ lw_all := lw_g (lw_at lw_m10 0 rfl) rfl
theorem q2289 : (Jvm.Cond.methodLink "ExemptDeskLaw" (209 : Nat) ({ cls := "ExemptDesk", name := "undo", desc := "()I" } : Jvm.MethodName)) ∈ lw_all := lw_g (lw_at lw_m10 7 rfl) rfl
theorem q2308 : (Jvm.Cond.methodLink "ExemptDeskLaw" (213 : Nat) ({ cls := "ExemptDesk", name := "keep", desc := "()I" } : Jvm.MethodName)) ∈ lw_all := lw_g (lw_at lw_m10 26 rfl) rfl
theorem q2312 : (Jvm.Cond.methodLink "ExemptDeskLaw" (217 : Nat) ({ cls := "ExemptDesk", name := "back", desc := "()I" } : Jvm.MethodName)) ∈ lw_all := lw_g (lw_at lw_m10 30 rfl) rfl
theorem q2316 : (Jvm.Cond.methodLink "ExemptDeskLaw" (221 : Nat) ({ cls := "ExemptDesk", name := "count", desc := "(I)I" } : Jvm.MethodName)) ∈ lw_all := lw_g (lw_at lw_m10 34 rfl) rfl
theorem q2320 : (Jvm.Cond.methodLink "ExemptDeskLaw" (39 : Nat) ({ cls := "ExemptDeskLaw", name := "trader", desc := "(LExemptDesk;II[J)I" } : Jvm.MethodName)) ∈ lw_all := lw_g (lw_at lw_m10 38 rfl) rfl
theorem q2321 : (Jvm.Cond.static ({ cls := "ExemptDeskLaw", name := "trader", desc := "(LExemptDesk;II[J)I" } : Jvm.MethodName)) ∈ lw_all := lw_g (lw_at lw_m10 39 rfl) rfl
theorem q2322 : (Jvm.Cond.codeWith ({ cls := "ExemptDeskLaw", name := "trader", desc := "(LExemptDesk;II[J)I" } : Jvm.MethodName) method_3_code (5 : Nat) (Option.some Jvm.ClassFile.FieldType.int) [((0 : Nat), (10 : Nat), (13 : Nat), (13 : Nat)), ((0 : Nat), (10 : Nat), (17 : Nat), (15 : Nat))]) ∈ lw_all := lw_g (lw_at lw_m10 40 rfl) rfl
theorem q2323 : (Jvm.Cond.classLink "ExemptDeskLaw" (13 : Nat) "java/lang/IndexOutOfBoundsException") ∈ lw_all := lw_g (lw_at lw_m10 41 rfl) rfl
theorem q2339 : (Jvm.Cond.classLink "ExemptDeskLaw" (15 : Nat) "java/util/NoSuchElementException") ∈ lw_all := lw_g (lw_at lw_m10 57 rfl) rfl
theorem q2340 : (Jvm.Cond.methodLink "ExemptDeskLaw" (7 : Nat) ({ cls := "ExemptDesk", name := "trader", desc := "(II)I" } : Jvm.MethodName)) ∈ lw_all := lw_g (lw_at lw_m10 58 rfl) rfl
theorem q2359 : (Jvm.Cond.classLink "ExemptDeskLaw" (18 : Nat) "ExemptDeskModel") ∈ lw_all := lw_g (lw_at lw_m10 77 rfl) rfl
theorem q2361 : (Jvm.Cond.methodLink "ExemptDeskLaw" (20 : Nat) ({ cls := "ExemptDeskModel", name := "<init>", desc := "()V" } : Jvm.MethodName)) ∈ lw_all := lw_g (lw_at lw_m10 79 rfl) rfl
theorem q2497 : (Jvm.Cond.methodLink "ExemptDeskLaw" (45 : Nat) ({ cls := "ExemptDeskModel", name := "thrown", desc := "()I" } : Jvm.MethodName)) ∈ lw_all := lw_g (lw_at lw_m10 215 rfl) rfl
theorem q2501 : (Jvm.Cond.methodLink "ExemptDeskLaw" (25 : Nat) ({ cls := "ExemptDeskModel", name := "feed", desc := "(IIIII)I" } : Jvm.MethodName)) ∈ lw_all := lw_g (lw_at lw_m10 219 rfl) rfl
theorem q2505 : (Jvm.Cond.methodLink "ExemptDeskLaw" (30 : Nat) ({ cls := "ExemptDeskModel", name := "text", desc := "(I)I" } : Jvm.MethodName)) ∈ lw_all := lw_g (lw_at lw_m10 223 rfl) rfl
theorem q2585 : (Jvm.Cond.methodLink "ExemptDeskLaw" (34 : Nat) ({ cls := "ExemptDeskModel", name := "fault", desc := "(I)I" } : Jvm.MethodName)) ∈ lw_all := lw_g (lw_at lw_m11 63 rfl) rfl
theorem q2589 : (Jvm.Cond.methodLink "ExemptDeskLaw" (38 : Nat) ({ cls := "ExemptDeskModel", name := "named", desc := "(I)I" } : Jvm.MethodName)) ∈ lw_all := lw_g (lw_at lw_m11 67 rfl) rfl
theorem q2593 : (Jvm.Cond.methodLink "ExemptDeskLaw" (212 : Nat) ({ cls := "ExemptDeskModel", name := "undo", desc := "()I" } : Jvm.MethodName)) ∈ lw_all := lw_g (lw_at lw_m11 71 rfl) rfl
theorem q2601 : (Jvm.Cond.methodLink "ExemptDeskLaw" (216 : Nat) ({ cls := "ExemptDeskModel", name := "keep", desc := "()I" } : Jvm.MethodName)) ∈ lw_all := lw_g (lw_at lw_m11 79 rfl) rfl
theorem q2605 : (Jvm.Cond.methodLink "ExemptDeskLaw" (220 : Nat) ({ cls := "ExemptDeskModel", name := "back", desc := "()I" } : Jvm.MethodName)) ∈ lw_all := lw_g (lw_at lw_m11 83 rfl) rfl
theorem q2609 : (Jvm.Cond.methodLink "ExemptDeskLaw" (57 : Nat) ({ cls := "ExemptDeskModel", name := "sale", desc := "(III)I" } : Jvm.MethodName)) ∈ lw_all := lw_g (lw_at lw_m11 87 rfl) rfl
theorem q2621 : (Jvm.Cond.methodLink "ExemptDeskLaw" (61 : Nat) ({ cls := "ExemptDeskModel", name := "buy", desc := "(III)I" } : Jvm.MethodName)) ∈ lw_all := lw_g (lw_at lw_m11 99 rfl) rfl
theorem q2625 : (Jvm.Cond.methodLink "ExemptDeskLaw" (66 : Nat) ({ cls := "ExemptDeskModel", name := "late", desc := "(IIII)I" } : Jvm.MethodName)) ∈ lw_all := lw_g (lw_at lw_m11 103 rfl) rfl
theorem q2633 : (Jvm.Cond.methodLink "ExemptDeskLaw" (71 : Nat) ({ cls := "ExemptDeskModel", name := "heads", desc := "(III)Z" } : Jvm.MethodName)) ∈ lw_all := lw_g (lw_at lw_m11 111 rfl) rfl
theorem q2637 : (Jvm.Cond.methodLink "ExemptDeskLaw" (75 : Nat) ({ cls := "ExemptDeskModel", name := "acquire", desc := "(IIII)I" } : Jvm.MethodName)) ∈ lw_all := lw_g (lw_at lw_m11 115 rfl) rfl
theorem q2641 : (Jvm.Cond.methodLink "ExemptDeskLaw" (80 : Nat) ({ cls := "ExemptDeskModel", name := "use", desc := "(II)Z" } : Jvm.MethodName)) ∈ lw_all := lw_g (lw_at lw_m11 119 rfl) rfl
theorem q2661 : (Jvm.Cond.methodLink "ExemptDeskLaw" (84 : Nat) ({ cls := "ExemptDeskModel", name := "sell", desc := "(III)I" } : Jvm.MethodName)) ∈ lw_all := lw_g (lw_at lw_m11 139 rfl) rfl
theorem q2669 : (Jvm.Cond.methodLink "ExemptDeskLaw" (88 : Nat) ({ cls := "ExemptDeskModel", name := "hand", desc := "(II)I" } : Jvm.MethodName)) ∈ lw_all := lw_g (lw_at lw_m11 147 rfl) rfl
theorem q2673 : (Jvm.Cond.methodLink "ExemptDeskLaw" (92 : Nat) ({ cls := "ExemptDeskModel", name := "close", desc := "(I)I" } : Jvm.MethodName)) ∈ lw_all := lw_g (lw_at lw_m11 151 rfl) rfl
theorem q2777 : (Jvm.Cond.methodLink "ExemptDeskLaw" (44 : Nat) ({ cls := "ExemptDeskModel", name := "trader", desc := "(II)I" } : Jvm.MethodName)) ∈ lw_all := lw_g (lw_at lw_m12 15 rfl) rfl
theorem q2785 : (Jvm.Cond.methodLink "ExemptDeskLaw" (52 : Nat) ({ cls := "ExemptDeskModel", name := "asset", desc := "(II)I" } : Jvm.MethodName)) ∈ lw_all := lw_g (lw_at lw_m12 23 rfl) rfl
theorem q2793 : (Jvm.Cond.methodLink "ExemptDeskLaw" (96 : Nat) ({ cls := "ExemptDeskModel", name := "sum", desc := "(III)I" } : Jvm.MethodName)) ∈ lw_all := lw_g (lw_at lw_m12 31 rfl) rfl
theorem q2801 : (Jvm.Cond.methodLink "ExemptDeskLaw" (100 : Nat) ({ cls := "ExemptDeskModel", name := "provisional", desc := "(II)I" } : Jvm.MethodName)) ∈ lw_all := lw_g (lw_at lw_m12 39 rfl) rfl
theorem q2805 : (Jvm.Cond.methodLink "ExemptDeskLaw" (104 : Nat) ({ cls := "ExemptDeskModel", name := "recovered", desc := "(II)I" } : Jvm.MethodName)) ∈ lw_all := lw_g (lw_at lw_m12 43 rfl) rfl
theorem q2809 : (Jvm.Cond.methodLink "ExemptDeskLaw" (108 : Nat) ({ cls := "ExemptDeskModel", name := "annual", desc := "(III)I" } : Jvm.MethodName)) ∈ lw_all := lw_g (lw_at lw_m12 47 rfl) rfl
theorem q2822 : (Jvm.Cond.methodLink "ExemptDeskLaw" (112 : Nat) ({ cls := "ExemptDeskModel", name := "interval", desc := "(III)I" } : Jvm.MethodName)) ∈ lw_all := lw_g (lw_at lw_m12 60 rfl) rfl
theorem q2826 : (Jvm.Cond.methodLink "ExemptDeskLaw" (116 : Nat) ({ cls := "ExemptDeskModel", name := "taken", desc := "(I)I" } : Jvm.MethodName)) ∈ lw_all := lw_g (lw_at lw_m12 64 rfl) rfl
theorem q2830 : (Jvm.Cond.methodLink "ExemptDeskLaw" (120 : Nat) ({ cls := "ExemptDeskModel", name := "last", desc := "(I)I" } : Jvm.MethodName)) ∈ lw_all := lw_g (lw_at lw_m12 68 rfl) rfl
theorem q2834 : (Jvm.Cond.methodLink "ExemptDeskLaw" (124 : Nat) ({ cls := "ExemptDeskModel", name := "booked", desc := "(II)I" } : Jvm.MethodName)) ∈ lw_all := lw_g (lw_at lw_m12 72 rfl) rfl
theorem q2838 : (Jvm.Cond.methodLink "ExemptDeskLaw" (128 : Nat) ({ cls := "ExemptDeskModel", name := "total", desc := "(II)I" } : Jvm.MethodName)) ∈ lw_all := lw_g (lw_at lw_m12 76 rfl) rfl
theorem q2842 : (Jvm.Cond.methodLink "ExemptDeskLaw" (132 : Nat) ({ cls := "ExemptDeskModel", name := "by", desc := "(IIIII)I" } : Jvm.MethodName)) ∈ lw_all := lw_g (lw_at lw_m12 80 rfl) rfl
theorem q2846 : (Jvm.Cond.methodLink "ExemptDeskLaw" (136 : Nat) ({ cls := "ExemptDeskModel", name := "bestMethod", desc := "(II)I" } : Jvm.MethodName)) ∈ lw_all := lw_g (lw_at lw_m12 84 rfl) rfl
theorem q2850 : (Jvm.Cond.methodLink "ExemptDeskLaw" (140 : Nat) ({ cls := "ExemptDeskModel", name := "bestStep", desc := "(II)I" } : Jvm.MethodName)) ∈ lw_all := lw_g (lw_at lw_m12 88 rfl) rfl
theorem q2854 : (Jvm.Cond.methodLink "ExemptDeskLaw" (144 : Nat) ({ cls := "ExemptDeskModel", name := "joint", desc := "(III)I" } : Jvm.MethodName)) ∈ lw_all := lw_g (lw_at lw_m12 92 rfl) rfl
theorem q2858 : (Jvm.Cond.methodLink "ExemptDeskLaw" (148 : Nat) ({ cls := "ExemptDeskModel", name := "limitFor", desc := "(II)I" } : Jvm.MethodName)) ∈ lw_all := lw_g (lw_at lw_m12 96 rfl) rfl
theorem q2862 : (Jvm.Cond.methodLink "ExemptDeskLaw" (152 : Nat) ({ cls := "ExemptDeskModel", name := "byBasis", desc := "(III)I" } : Jvm.MethodName)) ∈ lw_all := lw_g (lw_at lw_m12 100 rfl) rfl
theorem q2866 : (Jvm.Cond.methodLink "ExemptDeskLaw" (156 : Nat) ({ cls := "ExemptDeskModel", name := "leader", desc := "(I)I" } : Jvm.MethodName)) ∈ lw_all := lw_g (lw_at lw_m12 104 rfl) rfl
theorem q2870 : (Jvm.Cond.methodLink "ExemptDeskLaw" (160 : Nat) ({ cls := "ExemptDeskModel", name := "rise", desc := "(I)I" } : Jvm.MethodName)) ∈ lw_all := lw_g (lw_at lw_m12 108 rfl) rfl
theorem q2874 : (Jvm.Cond.methodLink "ExemptDeskLaw" (164 : Nat) ({ cls := "ExemptDeskModel", name := "need", desc := "(II)I" } : Jvm.MethodName)) ∈ lw_all := lw_g (lw_at lw_m12 112 rfl) rfl
theorem q2879 : (Jvm.Cond.methodLink "ExemptDeskLaw" (168 : Nat) ({ cls := "ExemptDeskModel", name := "room", desc := "(II)I" } : Jvm.MethodName)) ∈ lw_all := lw_g (lw_at lw_m12 117 rfl) rfl
theorem q2883 : (Jvm.Cond.methodLink "ExemptDeskLaw" (172 : Nat) ({ cls := "ExemptDeskModel", name := "would", desc := "(II)I" } : Jvm.MethodName)) ∈ lw_all := lw_g (lw_at lw_m12 121 rfl) rfl
theorem q2891 : (Jvm.Cond.methodLink "ExemptDeskLaw" (176 : Nat) ({ cls := "ExemptDeskModel", name := "bestWait", desc := "(II)I" } : Jvm.MethodName)) ∈ lw_all := lw_g (lw_at lw_m12 129 rfl) rfl
theorem q2895 : (Jvm.Cond.methodLink "ExemptDeskLaw" (180 : Nat) ({ cls := "ExemptDeskModel", name := "project", desc := "(II)I" } : Jvm.MethodName)) ∈ lw_all := lw_g (lw_at lw_m12 133 rfl) rfl
theorem q2899 : (Jvm.Cond.methodLink "ExemptDeskLaw" (184 : Nat) ({ cls := "ExemptDeskModel", name := "ifUse", desc := "(II)I" } : Jvm.MethodName)) ∈ lw_all := lw_g (lw_at lw_m12 137 rfl) rfl
theorem q2903 : (Jvm.Cond.methodLink "ExemptDeskLaw" (188 : Nat) ({ cls := "ExemptDeskModel", name := "owners", desc := "(I)I" } : Jvm.MethodName)) ∈ lw_all := lw_g (lw_at lw_m12 141 rfl) rfl
theorem q2907 : (Jvm.Cond.methodLink "ExemptDeskLaw" (192 : Nat) ({ cls := "ExemptDeskModel", name := "even", desc := "(II)I" } : Jvm.MethodName)) ∈ lw_all := lw_g (lw_at lw_m12 145 rfl) rfl
theorem q2912 : (Jvm.Cond.methodLink "ExemptDeskLaw" (196 : Nat) ({ cls := "ExemptDeskModel", name := "worth", desc := "(I)I" } : Jvm.MethodName)) ∈ lw_all := lw_g (lw_at lw_m12 150 rfl) rfl
theorem q2916 : (Jvm.Cond.methodLink "ExemptDeskLaw" (200 : Nat) ({ cls := "ExemptDeskModel", name := "tried", desc := "(III)I" } : Jvm.MethodName)) ∈ lw_all := lw_g (lw_at lw_m12 154 rfl) rfl
theorem q2924 : (Jvm.Cond.methodLink "ExemptDeskLaw" (204 : Nat) ({ cls := "ExemptDeskModel", name := "chance", desc := "(III)I" } : Jvm.MethodName)) ∈ lw_all := lw_g (lw_at lw_m12 162 rfl) rfl
theorem q2940 : (Jvm.Cond.methodLink "ExemptDeskLaw" (208 : Nat) ({ cls := "ExemptDeskModel", name := "farthest", desc := "(I)I" } : Jvm.MethodName)) ∈ lw_all := lw_g (lw_at lw_m12 178 rfl) rfl
theorem q2944 : (Jvm.Cond.methodLink "ExemptDeskLaw" (224 : Nat) ({ cls := "ExemptDeskModel", name := "count", desc := "(I)I" } : Jvm.MethodName)) ∈ lw_all := lw_g (lw_at lw_m12 182 rfl) rfl

abbrev cX2_init : ByteArray := prog_14_method_1_code
def yX2_init : MethodName := ⟨RX2, "<init>", "(I)V"⟩
def dkwX2_init_3 : List UInt8 := [42, 186, 0, 20, 0, 0, 181, 0, 13, 177]
abbrev dktX2_init_3 : List UInt8 := dkwX2_init_3 ++ []
def dkwX2_init_2 : List UInt8 := [42, 186, 0, 9, 0, 0, 181, 0, 13, 167, 0, 24, 42, 186, 0, 19, 0, 0, 181, 0, 13, 167, 0, 12]
abbrev dktX2_init_2 : List UInt8 := dkwX2_init_2 ++ dktX2_init_3
def dkwX2_init_1 : List UInt8 := [171, 0, 0, 0, 0, 0, 51, 0, 0, 0, 2, 0, 0, 0, 0, 0, 0, 0, 27, 0, 0, 0, 1, 0, 0, 0, 39]
abbrev dktX2_init_1 : List UInt8 := dkwX2_init_1 ++ dktX2_init_2
def dkwX2_init_0 : List UInt8 := [42, 183, 0, 3, 27]
abbrev dktX2_init_0 : List UInt8 := dkwX2_init_0 ++ dktX2_init_1
theorem dksX2_init_0 : cX2_init.data.toList.drop 0 = dktX2_init_0 := by decide +kernel
theorem dksX2_init_1 : cX2_init.data.toList.drop 5 = dktX2_init_1 := dk_seg dksX2_init_0 5 rfl rfl
theorem dksX2_init_2 : cX2_init.data.toList.drop 32 = dktX2_init_2 := dk_seg dksX2_init_1 27 rfl rfl
theorem dksX2_init_3 : cX2_init.data.toList.drop 56 = dktX2_init_3 := dk_seg dksX2_init_2 24 rfl rfl
theorem dX2_init_0 : decode cX2_init 0 = .ok (.aload_n 0, 1) := dk_42 (dk_at dksX2_init_0 0 rfl rfl)
theorem dX2_init_1 : decode cX2_init 1 = .ok (.invokespecial 3, 3) := dk_183 0 3 (dk_at dksX2_init_0 1 rfl rfl)
theorem dX2_init_4 : decode cX2_init 4 = .ok (.iload_n 1, 1) := dk_27 (dk_at dksX2_init_0 4 rfl rfl)
theorem dX2_init_5 : decode cX2_init 5 = .ok (.lookupswitch 51 #[(0, 27), (1, 39)], 27) := by decide +kernel
theorem dX2_init_32 : decode cX2_init 32 = .ok (.aload_n 0, 1) := dk_42 (dk_at dksX2_init_2 0 rfl rfl)
theorem dX2_init_33 : decode cX2_init 33 = .ok (.invokedynamic 9, 5) := by decide +kernel
theorem dX2_init_38 : decode cX2_init 38 = .ok (.putfield 13, 3) := dk_181 0 13 (dk_at dksX2_init_2 6 rfl rfl)
theorem dX2_init_41 : decode cX2_init 41 = .ok (.goto 24, 3) := dk_167 0 24 (dk_at dksX2_init_2 9 rfl rfl)
theorem dX2_init_44 : decode cX2_init 44 = .ok (.aload_n 0, 1) := dk_42 (dk_at dksX2_init_2 12 rfl rfl)
theorem dX2_init_45 : decode cX2_init 45 = .ok (.invokedynamic 19, 5) := by decide +kernel
theorem dX2_init_50 : decode cX2_init 50 = .ok (.putfield 13, 3) := dk_181 0 13 (dk_at dksX2_init_2 18 rfl rfl)
theorem dX2_init_53 : decode cX2_init 53 = .ok (.goto 12, 3) := dk_167 0 12 (dk_at dksX2_init_2 21 rfl rfl)
theorem dX2_init_56 : decode cX2_init 56 = .ok (.aload_n 0, 1) := dk_42 (dk_at dksX2_init_3 0 rfl rfl)
theorem dX2_init_57 : decode cX2_init 57 = .ok (.invokedynamic 20, 5) := by decide +kernel
theorem dX2_init_62 : decode cX2_init 62 = .ok (.putfield 13, 3) := dk_181 0 13 (dk_at dksX2_init_3 6 rfl rfl)
theorem dX2_init_65 : decode cX2_init 65 = .ok (.return_, 1) := dk_177 (dk_at dksX2_init_3 9 rfl rfl)
abbrev cX2_lambda_new_0 : ByteArray := prog_14_method_5_code
def yX2_lambda_new_0 : MethodName := ⟨RX2, "lambda$new$0", "(JJ)J"⟩
def dkwX2_lambda_new_0_0 : List UInt8 := [30, 32, 184, 0, 28, 173]
abbrev dktX2_lambda_new_0_0 : List UInt8 := dkwX2_lambda_new_0_0 ++ []
theorem dksX2_lambda_new_0_0 : cX2_lambda_new_0.data.toList.drop 0 = dktX2_lambda_new_0_0 := by decide +kernel
theorem dX2_lambda_new_0_0 : decode cX2_lambda_new_0 0 = .ok (.lload_n 0, 1) := dk_30 (dk_at dksX2_lambda_new_0_0 0 rfl rfl)
theorem dX2_lambda_new_0_1 : decode cX2_lambda_new_0 1 = .ok (.lload_n 2, 1) := dk_32 (dk_at dksX2_lambda_new_0_0 1 rfl rfl)
theorem dX2_lambda_new_0_2 : decode cX2_lambda_new_0 2 = .ok (.invokestatic 28, 3) := dk_184 0 28 (dk_at dksX2_lambda_new_0_0 2 rfl rfl)
theorem dX2_lambda_new_0_5 : decode cX2_lambda_new_0 5 = .ok (.lreturn, 1) := dk_173 (dk_at dksX2_lambda_new_0_0 5 rfl rfl)
abbrev cX2_lambda_new_1 : ByteArray := prog_14_method_4_code
def yX2_lambda_new_1 : MethodName := ⟨RX2, "lambda$new$1", "(JJ)J"⟩
def dkwX2_lambda_new_1_0 : List UInt8 := [30, 117, 32, 184, 0, 28, 117, 173]
abbrev dktX2_lambda_new_1_0 : List UInt8 := dkwX2_lambda_new_1_0 ++ []
theorem dksX2_lambda_new_1_0 : cX2_lambda_new_1.data.toList.drop 0 = dktX2_lambda_new_1_0 := by decide +kernel
theorem dX2_lambda_new_1_0 : decode cX2_lambda_new_1 0 = .ok (.lload_n 0, 1) := dk_30 (dk_at dksX2_lambda_new_1_0 0 rfl rfl)
theorem dX2_lambda_new_1_1 : decode cX2_lambda_new_1 1 = .ok (.lneg, 1) := dk_117 (dk_at dksX2_lambda_new_1_0 1 rfl rfl)
theorem dX2_lambda_new_1_2 : decode cX2_lambda_new_1 2 = .ok (.lload_n 2, 1) := dk_32 (dk_at dksX2_lambda_new_1_0 2 rfl rfl)
theorem dX2_lambda_new_1_3 : decode cX2_lambda_new_1 3 = .ok (.invokestatic 28, 3) := dk_184 0 28 (dk_at dksX2_lambda_new_1_0 3 rfl rfl)
theorem dX2_lambda_new_1_6 : decode cX2_lambda_new_1 6 = .ok (.lneg, 1) := dk_117 (dk_at dksX2_lambda_new_1_0 6 rfl rfl)
theorem dX2_lambda_new_1_7 : decode cX2_lambda_new_1 7 = .ok (.lreturn, 1) := dk_173 (dk_at dksX2_lambda_new_1_0 7 rfl rfl)
abbrev cX2_lambda_new_2 : ByteArray := prog_14_method_3_code
def yX2_lambda_new_2 : MethodName := ⟨RX2, "lambda$new$2", "(JJ)J"⟩
def dkwX2_lambda_new_2_0 : List UInt8 := [20, 0, 26, 30, 105, 32, 97, 20, 0, 26, 32, 105, 184, 0, 28, 173]
abbrev dktX2_lambda_new_2_0 : List UInt8 := dkwX2_lambda_new_2_0 ++ []
theorem dksX2_lambda_new_2_0 : cX2_lambda_new_2.data.toList.drop 0 = dktX2_lambda_new_2_0 := by decide +kernel
theorem dX2_lambda_new_2_0 : decode cX2_lambda_new_2 0 = .ok (.ldc2_w 26, 3) := dk_20 0 26 (dk_at dksX2_lambda_new_2_0 0 rfl rfl)
theorem dX2_lambda_new_2_3 : decode cX2_lambda_new_2 3 = .ok (.lload_n 0, 1) := dk_30 (dk_at dksX2_lambda_new_2_0 3 rfl rfl)
theorem dX2_lambda_new_2_4 : decode cX2_lambda_new_2 4 = .ok (.lmul, 1) := dk_105 (dk_at dksX2_lambda_new_2_0 4 rfl rfl)
theorem dX2_lambda_new_2_5 : decode cX2_lambda_new_2 5 = .ok (.lload_n 2, 1) := dk_32 (dk_at dksX2_lambda_new_2_0 5 rfl rfl)
theorem dX2_lambda_new_2_6 : decode cX2_lambda_new_2 6 = .ok (.ladd, 1) := dk_97 (dk_at dksX2_lambda_new_2_0 6 rfl rfl)
theorem dX2_lambda_new_2_7 : decode cX2_lambda_new_2 7 = .ok (.ldc2_w 26, 3) := dk_20 0 26 (dk_at dksX2_lambda_new_2_0 7 rfl rfl)
theorem dX2_lambda_new_2_10 : decode cX2_lambda_new_2 10 = .ok (.lload_n 2, 1) := dk_32 (dk_at dksX2_lambda_new_2_0 10 rfl rfl)
theorem dX2_lambda_new_2_11 : decode cX2_lambda_new_2 11 = .ok (.lmul, 1) := dk_105 (dk_at dksX2_lambda_new_2_0 11 rfl rfl)
theorem dX2_lambda_new_2_12 : decode cX2_lambda_new_2 12 = .ok (.invokestatic 28, 3) := dk_184 0 28 (dk_at dksX2_lambda_new_2_0 12 rfl rfl)
theorem dX2_lambda_new_2_15 : decode cX2_lambda_new_2 15 = .ok (.lreturn, 1) := dk_173 (dk_at dksX2_lambda_new_2_0 15 rfl rfl)
abbrev cX2_cut : ByteArray := prog_14_method_2_code
def yX2_cut : MethodName := ⟨RX2, "cut", "(JJ)I"⟩
def dkwX2_cut_0 : List UInt8 := [42, 180, 0, 13, 31, 33, 185, 0, 21, 5, 0, 136, 172]
abbrev dktX2_cut_0 : List UInt8 := dkwX2_cut_0 ++ []
theorem dksX2_cut_0 : cX2_cut.data.toList.drop 0 = dktX2_cut_0 := by decide +kernel
theorem dX2_cut_0 : decode cX2_cut 0 = .ok (.aload_n 0, 1) := dk_42 (dk_at dksX2_cut_0 0 rfl rfl)
theorem dX2_cut_1 : decode cX2_cut 1 = .ok (.getfield 13, 3) := dk_180 0 13 (dk_at dksX2_cut_0 1 rfl rfl)
theorem dX2_cut_4 : decode cX2_cut 4 = .ok (.lload_n 1, 1) := dk_31 (dk_at dksX2_cut_0 4 rfl rfl)
theorem dX2_cut_5 : decode cX2_cut 5 = .ok (.lload_n 3, 1) := dk_33 (dk_at dksX2_cut_0 5 rfl rfl)
theorem dX2_cut_6 : decode cX2_cut 6 = .ok (.invokeinterface 21 5, 5) := by decide +kernel
theorem dX2_cut_11 : decode cX2_cut 11 = .ok (.l2i, 1) := dk_136 (dk_at dksX2_cut_0 11 rfl rfl)
theorem dX2_cut_12 : decode cX2_cut 12 = .ok (.ireturn, 1) := dk_172 (dk_at dksX2_cut_0 12 rfl rfl)
theorem q124 : (Jvm.Cond.initialized "ExemptDesk$Way") ∈ lw_all := lw_g (lw_at lw_m1 2 rfl) rfl
theorem q185 : (Jvm.Cond.instantiable "ExemptDesk$Way" (1 : Nat)) ∈ lw_all := lw_g (lw_at lw_m1 63 rfl) rfl
theorem q187 : (Jvm.Cond.instanceMethod ({ cls := "ExemptDesk$Way", name := "<init>", desc := "(I)V" } : Jvm.MethodName)) ∈ lw_all := lw_g (lw_at lw_m1 65 rfl) rfl
theorem q188 : (Jvm.Cond.code ({ cls := "ExemptDesk$Way", name := "<init>", desc := "(I)V" } : Jvm.MethodName) prog_14_method_1_code (2 : Nat) (Option.none : Option Jvm.ClassFile.FieldType)) ∈ lw_all := lw_g (lw_at lw_m1 66 rfl) rfl
theorem q189 : (Jvm.Cond.methodLink "ExemptDesk$Way" (3 : Nat) ({ cls := "java/lang/Object", name := "<init>", desc := "()V" } : Jvm.MethodName)) ∈ lw_all := lw_g (lw_at lw_m1 67 rfl) rfl
theorem q190 : (Jvm.Cond.static ({ cls := "ExemptDesk$Way", name := "lambda$new$0", desc := "(JJ)J" } : Jvm.MethodName)) ∈ lw_all := lw_g (lw_at lw_m1 68 rfl) rfl
theorem q191 : (Jvm.Cond.code ({ cls := "ExemptDesk$Way", name := "lambda$new$0", desc := "(JJ)J" } : Jvm.MethodName) prog_14_method_5_code (4 : Nat) (Option.some Jvm.ClassFile.FieldType.long)) ∈ lw_all := lw_g (lw_at lw_m1 69 rfl) rfl
theorem q192 : (Jvm.Cond.methodLink "ExemptDesk$Way" (28 : Nat) ({ cls := "java/lang/Math", name := "floorDiv", desc := "(JJ)J" } : Jvm.MethodName)) ∈ lw_all := lw_g (lw_at lw_m1 70 rfl) rfl
theorem q195 : (Jvm.Cond.static ({ cls := "ExemptDesk$Way", name := "lambda$new$1", desc := "(JJ)J" } : Jvm.MethodName)) ∈ lw_all := lw_g (lw_at lw_m1 73 rfl) rfl
theorem q196 : (Jvm.Cond.code ({ cls := "ExemptDesk$Way", name := "lambda$new$1", desc := "(JJ)J" } : Jvm.MethodName) prog_14_method_4_code (4 : Nat) (Option.some Jvm.ClassFile.FieldType.long)) ∈ lw_all := lw_g (lw_at lw_m1 74 rfl) rfl
theorem q197 : (Jvm.Cond.static ({ cls := "ExemptDesk$Way", name := "lambda$new$2", desc := "(JJ)J" } : Jvm.MethodName)) ∈ lw_all := lw_g (lw_at lw_m1 75 rfl) rfl
theorem q198 : (Jvm.Cond.code ({ cls := "ExemptDesk$Way", name := "lambda$new$2", desc := "(JJ)J" } : Jvm.MethodName) prog_14_method_3_code (4 : Nat) (Option.some Jvm.ClassFile.FieldType.long)) ∈ lw_all := lw_g (lw_at lw_m1 76 rfl) rfl
theorem q199 : (Jvm.Cond.constantLong "ExemptDesk$Way" (26 : Nat) (2 : Int64)) ∈ lw_all := lw_g (lw_at lw_m1 77 rfl) rfl
theorem q200 : (Jvm.Cond.fieldLink "ExemptDesk$Way" (13 : Nat) "ExemptDesk$Way" "cut" "LExemptDesk$Cut;") ∈ lw_all := lw_g (lw_at lw_m1 78 rfl) rfl
theorem q201 : (Jvm.Cond.laysFinal "ExemptDesk$Way" "ExemptDesk$Way" "cut" "LExemptDesk$Cut;") ∈ lw_all := lw_g (lw_at lw_m1 79 rfl) rfl
theorem q202 : (Jvm.Cond.soleField "ExemptDesk$Way" "cut") ∈ lw_all := lw_g (lw_at lw_m1 80 rfl) rfl
theorem q203 : (Jvm.Cond.superclass "ExemptDesk$Way" "java/lang/Object") ∈ lw_all := lw_g (lw_at lw_m1 81 rfl) rfl
theorem q228 : (Jvm.Cond.selects "ExemptDesk$Way" ({ cls := "java/lang/Object", name := "getClass", desc := "()Ljava/lang/Class;" } : Jvm.MethodName) ({ cls := "java/lang/Object", name := "getClass", desc := "()Ljava/lang/Class;" } : Jvm.MethodName)) ∈ lw_all := lw_g (lw_at lw_m1 106 rfl) rfl
theorem q1637 : (Jvm.Cond.instanceMethod ({ cls := "ExemptDesk$Way", name := "cut", desc := "(JJ)I" } : Jvm.MethodName)) ∈ lw_all := lw_g (lw_at lw_m7 75 rfl) rfl
theorem q1638 : (Jvm.Cond.selects "ExemptDesk$Way" ({ cls := "ExemptDesk$Way", name := "cut", desc := "(JJ)I" } : Jvm.MethodName) ({ cls := "ExemptDesk$Way", name := "cut", desc := "(JJ)I" } : Jvm.MethodName)) ∈ lw_all := lw_g (lw_at lw_m7 76 rfl) rfl
theorem q1639 : (Jvm.Cond.code ({ cls := "ExemptDesk$Way", name := "cut", desc := "(JJ)I" } : Jvm.MethodName) prog_14_method_2_code (5 : Nat) (Option.some Jvm.ClassFile.FieldType.int)) ∈ lw_all := lw_g (lw_at lw_m7 77 rfl) rfl
theorem q1640 : (Jvm.Cond.interfaceEntry "ExemptDesk$Way" (21 : Nat)) ∈ lw_tbl := lw_at lw_m7 78 rfl
theorem q1641 : (Jvm.Cond.methodLink "ExemptDesk$Way" (21 : Nat) ({ cls := "ExemptDesk$Cut", name := "of", desc := "(JJ)J" } : Jvm.MethodName)) ∈ lw_all := lw_g (lw_at lw_m7 79 rfl) rfl
theorem q2969 : (Jvm.Cond.castable "ExemptDesk$Way" "java/lang/Object") ∈ lw_tbl := lw_at lw_m12 207 rfl

abbrev cX3_init : ByteArray := prog_6_method_1_code
def yX3_init : MethodName := ⟨RX3, "<init>", "(I)V"⟩
def dkwX3_init_4 : List UInt8 := [186, 0, 23, 0, 0, 181, 0, 11, 42, 186, 0, 24, 0, 0, 181, 0, 18, 177]
abbrev dktX3_init_4 : List UInt8 := dkwX3_init_4 ++ []
def dkwX3_init_3 : List UInt8 := [186, 0, 21, 0, 0, 181, 0, 11, 42, 186, 0, 22, 0, 0, 181, 0, 18, 167, 0, 21, 42]
abbrev dktX3_init_3 : List UInt8 := dkwX3_init_3 ++ dktX3_init_4
def dkwX3_init_2 : List UInt8 := [42, 186, 0, 7, 0, 0, 181, 0, 11, 42, 186, 0, 17, 0, 0, 181, 0, 18, 167, 0, 42, 42]
abbrev dktX3_init_2 : List UInt8 := dkwX3_init_2 ++ dktX3_init_3
def dkwX3_init_1 : List UInt8 := [171, 0, 0, 0, 0, 0, 69, 0, 0, 0, 2, 0, 0, 0, 0, 0, 0, 0, 27, 0, 0, 0, 1, 0, 0, 0, 48]
abbrev dktX3_init_1 : List UInt8 := dkwX3_init_1 ++ dktX3_init_2
def dkwX3_init_0 : List UInt8 := [42, 183, 0, 1, 27]
abbrev dktX3_init_0 : List UInt8 := dkwX3_init_0 ++ dktX3_init_1
theorem dksX3_init_0 : cX3_init.data.toList.drop 0 = dktX3_init_0 := by decide +kernel
theorem dksX3_init_1 : cX3_init.data.toList.drop 5 = dktX3_init_1 := dk_seg dksX3_init_0 5 rfl rfl
theorem dksX3_init_2 : cX3_init.data.toList.drop 32 = dktX3_init_2 := dk_seg dksX3_init_1 27 rfl rfl
theorem dksX3_init_3 : cX3_init.data.toList.drop 54 = dktX3_init_3 := dk_seg dksX3_init_2 22 rfl rfl
theorem dksX3_init_4 : cX3_init.data.toList.drop 75 = dktX3_init_4 := dk_seg dksX3_init_3 21 rfl rfl
theorem dX3_init_0 : decode cX3_init 0 = .ok (.aload_n 0, 1) := dk_42 (dk_at dksX3_init_0 0 rfl rfl)
theorem dX3_init_1 : decode cX3_init 1 = .ok (.invokespecial 1, 3) := dk_183 0 1 (dk_at dksX3_init_0 1 rfl rfl)
theorem dX3_init_4 : decode cX3_init 4 = .ok (.iload_n 1, 1) := dk_27 (dk_at dksX3_init_0 4 rfl rfl)
theorem dX3_init_5 : decode cX3_init 5 = .ok (.lookupswitch 69 #[(0, 27), (1, 48)], 27) := by decide +kernel
theorem dX3_init_32 : decode cX3_init 32 = .ok (.aload_n 0, 1) := dk_42 (dk_at dksX3_init_2 0 rfl rfl)
theorem dX3_init_33 : decode cX3_init 33 = .ok (.invokedynamic 7, 5) := by decide +kernel
theorem dX3_init_38 : decode cX3_init 38 = .ok (.putfield 11, 3) := dk_181 0 11 (dk_at dksX3_init_2 6 rfl rfl)
theorem dX3_init_41 : decode cX3_init 41 = .ok (.aload_n 0, 1) := dk_42 (dk_at dksX3_init_2 9 rfl rfl)
theorem dX3_init_42 : decode cX3_init 42 = .ok (.invokedynamic 17, 5) := by decide +kernel
theorem dX3_init_47 : decode cX3_init 47 = .ok (.putfield 18, 3) := dk_181 0 18 (dk_at dksX3_init_2 15 rfl rfl)
theorem dX3_init_50 : decode cX3_init 50 = .ok (.goto 42, 3) := dk_167 0 42 (dk_at dksX3_init_2 18 rfl rfl)
theorem dX3_init_53 : decode cX3_init 53 = .ok (.aload_n 0, 1) := dk_42 (dk_at dksX3_init_2 21 rfl rfl)
theorem dX3_init_54 : decode cX3_init 54 = .ok (.invokedynamic 21, 5) := by decide +kernel
theorem dX3_init_59 : decode cX3_init 59 = .ok (.putfield 11, 3) := dk_181 0 11 (dk_at dksX3_init_3 5 rfl rfl)
theorem dX3_init_62 : decode cX3_init 62 = .ok (.aload_n 0, 1) := dk_42 (dk_at dksX3_init_3 8 rfl rfl)
theorem dX3_init_63 : decode cX3_init 63 = .ok (.invokedynamic 22, 5) := by decide +kernel
theorem dX3_init_68 : decode cX3_init 68 = .ok (.putfield 18, 3) := dk_181 0 18 (dk_at dksX3_init_3 14 rfl rfl)
theorem dX3_init_71 : decode cX3_init 71 = .ok (.goto 21, 3) := dk_167 0 21 (dk_at dksX3_init_3 17 rfl rfl)
theorem dX3_init_74 : decode cX3_init 74 = .ok (.aload_n 0, 1) := dk_42 (dk_at dksX3_init_3 20 rfl rfl)
theorem dX3_init_75 : decode cX3_init 75 = .ok (.invokedynamic 23, 5) := by decide +kernel
theorem dX3_init_80 : decode cX3_init 80 = .ok (.putfield 11, 3) := dk_181 0 11 (dk_at dksX3_init_4 5 rfl rfl)
theorem dX3_init_83 : decode cX3_init 83 = .ok (.aload_n 0, 1) := dk_42 (dk_at dksX3_init_4 8 rfl rfl)
theorem dX3_init_84 : decode cX3_init 84 = .ok (.invokedynamic 24, 5) := by decide +kernel
theorem dX3_init_89 : decode cX3_init 89 = .ok (.putfield 18, 3) := dk_181 0 18 (dk_at dksX3_init_4 14 rfl rfl)
theorem dX3_init_92 : decode cX3_init 92 = .ok (.return_, 1) := dk_177 (dk_at dksX3_init_4 17 rfl rfl)
abbrev cX3_lambda_new_0 : ByteArray := prog_6_method_8_code
def yX3_lambda_new_0 : MethodName := ⟨RX3, "lambda$new$0", "(LExemptDesk$Sums;II)J"⟩
def dkwX3_lambda_new_0_0 : List UInt8 := [42, 180, 0, 36, 3, 47, 173]
abbrev dktX3_lambda_new_0_0 : List UInt8 := dkwX3_lambda_new_0_0 ++ []
theorem dksX3_lambda_new_0_0 : cX3_lambda_new_0.data.toList.drop 0 = dktX3_lambda_new_0_0 := by decide +kernel
theorem dX3_lambda_new_0_0 : decode cX3_lambda_new_0 0 = .ok (.aload_n 0, 1) := dk_42 (dk_at dksX3_lambda_new_0_0 0 rfl rfl)
theorem dX3_lambda_new_0_1 : decode cX3_lambda_new_0 1 = .ok (.getfield 36, 3) := dk_180 0 36 (dk_at dksX3_lambda_new_0_0 1 rfl rfl)
theorem dX3_lambda_new_0_4 : decode cX3_lambda_new_0 4 = .ok (.iconst 0, 1) := dk_3 (dk_at dksX3_lambda_new_0_0 4 rfl rfl)
theorem dX3_lambda_new_0_5 : decode cX3_lambda_new_0 5 = .ok (.laload, 1) := dk_47 (dk_at dksX3_lambda_new_0_0 5 rfl rfl)
theorem dX3_lambda_new_0_6 : decode cX3_lambda_new_0 6 = .ok (.lreturn, 1) := dk_173 (dk_at dksX3_lambda_new_0_0 6 rfl rfl)
abbrev cX3_lambda_new_1 : ByteArray := prog_6_method_7_code
def yX3_lambda_new_1 : MethodName := ⟨RX3, "lambda$new$1", "(LExemptDesk$Sums;II)J"⟩
def dkwX3_lambda_new_1_0 : List UInt8 := [42, 180, 0, 36, 3, 47, 42, 180, 0, 36, 4, 47, 97, 173]
abbrev dktX3_lambda_new_1_0 : List UInt8 := dkwX3_lambda_new_1_0 ++ []
theorem dksX3_lambda_new_1_0 : cX3_lambda_new_1.data.toList.drop 0 = dktX3_lambda_new_1_0 := by decide +kernel
theorem dX3_lambda_new_1_0 : decode cX3_lambda_new_1 0 = .ok (.aload_n 0, 1) := dk_42 (dk_at dksX3_lambda_new_1_0 0 rfl rfl)
theorem dX3_lambda_new_1_1 : decode cX3_lambda_new_1 1 = .ok (.getfield 36, 3) := dk_180 0 36 (dk_at dksX3_lambda_new_1_0 1 rfl rfl)
theorem dX3_lambda_new_1_4 : decode cX3_lambda_new_1 4 = .ok (.iconst 0, 1) := dk_3 (dk_at dksX3_lambda_new_1_0 4 rfl rfl)
theorem dX3_lambda_new_1_5 : decode cX3_lambda_new_1 5 = .ok (.laload, 1) := dk_47 (dk_at dksX3_lambda_new_1_0 5 rfl rfl)
theorem dX3_lambda_new_1_6 : decode cX3_lambda_new_1 6 = .ok (.aload_n 0, 1) := dk_42 (dk_at dksX3_lambda_new_1_0 6 rfl rfl)
theorem dX3_lambda_new_1_7 : decode cX3_lambda_new_1 7 = .ok (.getfield 36, 3) := dk_180 0 36 (dk_at dksX3_lambda_new_1_0 7 rfl rfl)
theorem dX3_lambda_new_1_10 : decode cX3_lambda_new_1 10 = .ok (.iconst 1, 1) := dk_4 (dk_at dksX3_lambda_new_1_0 10 rfl rfl)
theorem dX3_lambda_new_1_11 : decode cX3_lambda_new_1 11 = .ok (.laload, 1) := dk_47 (dk_at dksX3_lambda_new_1_0 11 rfl rfl)
theorem dX3_lambda_new_1_12 : decode cX3_lambda_new_1 12 = .ok (.ladd, 1) := dk_97 (dk_at dksX3_lambda_new_1_0 12 rfl rfl)
theorem dX3_lambda_new_1_13 : decode cX3_lambda_new_1 13 = .ok (.lreturn, 1) := dk_173 (dk_at dksX3_lambda_new_1_0 13 rfl rfl)
abbrev cX3_lambda_new_2 : ByteArray := prog_6_method_6_code
def yX3_lambda_new_2 : MethodName := ⟨RX3, "lambda$new$2", "(LExemptDesk$Sums;II)J"⟩
def dkwX3_lambda_new_2_0 : List UInt8 := [42, 180, 0, 36, 5, 47, 173]
abbrev dktX3_lambda_new_2_0 : List UInt8 := dkwX3_lambda_new_2_0 ++ []
theorem dksX3_lambda_new_2_0 : cX3_lambda_new_2.data.toList.drop 0 = dktX3_lambda_new_2_0 := by decide +kernel
theorem dX3_lambda_new_2_0 : decode cX3_lambda_new_2 0 = .ok (.aload_n 0, 1) := dk_42 (dk_at dksX3_lambda_new_2_0 0 rfl rfl)
theorem dX3_lambda_new_2_1 : decode cX3_lambda_new_2 1 = .ok (.getfield 36, 3) := dk_180 0 36 (dk_at dksX3_lambda_new_2_0 1 rfl rfl)
theorem dX3_lambda_new_2_4 : decode cX3_lambda_new_2 4 = .ok (.iconst 2, 1) := dk_5 (dk_at dksX3_lambda_new_2_0 4 rfl rfl)
theorem dX3_lambda_new_2_5 : decode cX3_lambda_new_2 5 = .ok (.laload, 1) := dk_47 (dk_at dksX3_lambda_new_2_0 5 rfl rfl)
theorem dX3_lambda_new_2_6 : decode cX3_lambda_new_2 6 = .ok (.lreturn, 1) := dk_173 (dk_at dksX3_lambda_new_2_0 6 rfl rfl)
abbrev cX3_lambda_new_3 : ByteArray := prog_6_method_5_code
def yX3_lambda_new_3 : MethodName := ⟨RX3, "lambda$new$3", "(LExemptDesk$Sums;II)J"⟩
def dkwX3_lambda_new_3_0 : List UInt8 := [42, 180, 0, 36, 5, 47, 42, 180, 0, 36, 6, 47, 97, 173]
abbrev dktX3_lambda_new_3_0 : List UInt8 := dkwX3_lambda_new_3_0 ++ []
theorem dksX3_lambda_new_3_0 : cX3_lambda_new_3.data.toList.drop 0 = dktX3_lambda_new_3_0 := by decide +kernel
theorem dX3_lambda_new_3_0 : decode cX3_lambda_new_3 0 = .ok (.aload_n 0, 1) := dk_42 (dk_at dksX3_lambda_new_3_0 0 rfl rfl)
theorem dX3_lambda_new_3_1 : decode cX3_lambda_new_3 1 = .ok (.getfield 36, 3) := dk_180 0 36 (dk_at dksX3_lambda_new_3_0 1 rfl rfl)
theorem dX3_lambda_new_3_4 : decode cX3_lambda_new_3 4 = .ok (.iconst 2, 1) := dk_5 (dk_at dksX3_lambda_new_3_0 4 rfl rfl)
theorem dX3_lambda_new_3_5 : decode cX3_lambda_new_3 5 = .ok (.laload, 1) := dk_47 (dk_at dksX3_lambda_new_3_0 5 rfl rfl)
theorem dX3_lambda_new_3_6 : decode cX3_lambda_new_3 6 = .ok (.aload_n 0, 1) := dk_42 (dk_at dksX3_lambda_new_3_0 6 rfl rfl)
theorem dX3_lambda_new_3_7 : decode cX3_lambda_new_3 7 = .ok (.getfield 36, 3) := dk_180 0 36 (dk_at dksX3_lambda_new_3_0 7 rfl rfl)
theorem dX3_lambda_new_3_10 : decode cX3_lambda_new_3 10 = .ok (.iconst 3, 1) := dk_6 (dk_at dksX3_lambda_new_3_0 10 rfl rfl)
theorem dX3_lambda_new_3_11 : decode cX3_lambda_new_3 11 = .ok (.laload, 1) := dk_47 (dk_at dksX3_lambda_new_3_0 11 rfl rfl)
theorem dX3_lambda_new_3_12 : decode cX3_lambda_new_3 12 = .ok (.ladd, 1) := dk_97 (dk_at dksX3_lambda_new_3_0 12 rfl rfl)
theorem dX3_lambda_new_3_13 : decode cX3_lambda_new_3 13 = .ok (.lreturn, 1) := dk_173 (dk_at dksX3_lambda_new_3_0 13 rfl rfl)
abbrev cX3_lambda_new_4 : ByteArray := prog_6_method_4_code
def yX3_lambda_new_4 : MethodName := ⟨RX3, "lambda$new$4", "(LExemptDesk$Sums;II)J"⟩
theorem dX3_lambda_new_4_0 : decode cX3_lambda_new_4 0 = .ok (.iload_n 1, 1) := by decide +kernel
theorem dX3_lambda_new_4_1 : decode cX3_lambda_new_4 1 = .ok (.i2l, 1) := by decide +kernel
theorem dX3_lambda_new_4_2 : decode cX3_lambda_new_4 2 = .ok (.lreturn, 1) := by decide +kernel
abbrev cX3_lambda_new_5 : ByteArray := prog_6_method_3_code
def yX3_lambda_new_5 : MethodName := ⟨RX3, "lambda$new$5", "(LExemptDesk$Sums;II)J"⟩
theorem dX3_lambda_new_5_0 : decode cX3_lambda_new_5 0 = .ok (.iload_n 2, 1) := by decide +kernel
theorem dX3_lambda_new_5_1 : decode cX3_lambda_new_5 1 = .ok (.i2l, 1) := by decide +kernel
theorem dX3_lambda_new_5_2 : decode cX3_lambda_new_5 2 = .ok (.lreturn, 1) := by decide +kernel
abbrev cX3_fraction : ByteArray := prog_6_method_2_code
def yX3_fraction : MethodName := ⟨RX3, "fraction", "(LExemptDesk$Sums;IIILExemptDesk$Way;)I"⟩
def dkwX3_fraction_2 : List UInt8 := [182, 0, 30, 172]
abbrev dktX3_fraction_2 : List UInt8 := dkwX3_fraction_2 ++ []
def dkwX3_fraction_1 : List UInt8 := [167, 0, 26, 25, 5, 21, 4, 133, 42, 180, 0, 11, 43, 28, 29, 185, 0, 25, 4, 0, 105, 22, 6]
abbrev dktX3_fraction_1 : List UInt8 := dkwX3_fraction_1 ++ dktX3_fraction_2
def dkwX3_fraction_0 : List UInt8 := [42, 180, 0, 18, 43, 28, 29, 185, 0, 25, 4, 0, 55, 6, 22, 6, 9, 148, 154, 0, 8, 21, 4]
abbrev dktX3_fraction_0 : List UInt8 := dkwX3_fraction_0 ++ dktX3_fraction_1
theorem dksX3_fraction_0 : cX3_fraction.data.toList.drop 0 = dktX3_fraction_0 := by decide +kernel
theorem dksX3_fraction_1 : cX3_fraction.data.toList.drop 23 = dktX3_fraction_1 := dk_seg dksX3_fraction_0 23 rfl rfl
theorem dksX3_fraction_2 : cX3_fraction.data.toList.drop 46 = dktX3_fraction_2 := dk_seg dksX3_fraction_1 23 rfl rfl
theorem dX3_fraction_0 : decode cX3_fraction 0 = .ok (.aload_n 0, 1) := dk_42 (dk_at dksX3_fraction_0 0 rfl rfl)
theorem dX3_fraction_1 : decode cX3_fraction 1 = .ok (.getfield 18, 3) := dk_180 0 18 (dk_at dksX3_fraction_0 1 rfl rfl)
theorem dX3_fraction_4 : decode cX3_fraction 4 = .ok (.aload_n 1, 1) := dk_43 (dk_at dksX3_fraction_0 4 rfl rfl)
theorem dX3_fraction_5 : decode cX3_fraction 5 = .ok (.iload_n 2, 1) := dk_28 (dk_at dksX3_fraction_0 5 rfl rfl)
theorem dX3_fraction_6 : decode cX3_fraction 6 = .ok (.iload_n 3, 1) := dk_29 (dk_at dksX3_fraction_0 6 rfl rfl)
theorem dX3_fraction_7 : decode cX3_fraction 7 = .ok (.invokeinterface 25 4, 5) := by decide +kernel
theorem dX3_fraction_12 : decode cX3_fraction 12 = .ok (.lstore 6, 2) := dk_55 6 (dk_at dksX3_fraction_0 12 rfl rfl)
theorem dX3_fraction_14 : decode cX3_fraction 14 = .ok (.lload 6, 2) := dk_22 6 (dk_at dksX3_fraction_0 14 rfl rfl)
theorem dX3_fraction_16 : decode cX3_fraction 16 = .ok (.lconst 0, 1) := dk_9 (dk_at dksX3_fraction_0 16 rfl rfl)
theorem dX3_fraction_17 : decode cX3_fraction 17 = .ok (.lcmp, 1) := dk_148 (dk_at dksX3_fraction_0 17 rfl rfl)
theorem dX3_fraction_18 : decode cX3_fraction 18 = .ok (.ifCond .ne 8, 3) := dk_154 0 8 (dk_at dksX3_fraction_0 18 rfl rfl)
theorem dX3_fraction_21 : decode cX3_fraction 21 = .ok (.iload 4, 2) := dk_21 4 (dk_at dksX3_fraction_0 21 rfl rfl)
theorem dX3_fraction_23 : decode cX3_fraction 23 = .ok (.goto 26, 3) := dk_167 0 26 (dk_at dksX3_fraction_1 0 rfl rfl)
theorem dX3_fraction_26 : decode cX3_fraction 26 = .ok (.aload 5, 2) := dk_25 5 (dk_at dksX3_fraction_1 3 rfl rfl)
theorem dX3_fraction_28 : decode cX3_fraction 28 = .ok (.iload 4, 2) := dk_21 4 (dk_at dksX3_fraction_1 5 rfl rfl)
theorem dX3_fraction_30 : decode cX3_fraction 30 = .ok (.i2l, 1) := dk_133 (dk_at dksX3_fraction_1 7 rfl rfl)
theorem dX3_fraction_31 : decode cX3_fraction 31 = .ok (.aload_n 0, 1) := dk_42 (dk_at dksX3_fraction_1 8 rfl rfl)
theorem dX3_fraction_32 : decode cX3_fraction 32 = .ok (.getfield 11, 3) := dk_180 0 11 (dk_at dksX3_fraction_1 9 rfl rfl)
theorem dX3_fraction_35 : decode cX3_fraction 35 = .ok (.aload_n 1, 1) := dk_43 (dk_at dksX3_fraction_1 12 rfl rfl)
theorem dX3_fraction_36 : decode cX3_fraction 36 = .ok (.iload_n 2, 1) := dk_28 (dk_at dksX3_fraction_1 13 rfl rfl)
theorem dX3_fraction_37 : decode cX3_fraction 37 = .ok (.iload_n 3, 1) := dk_29 (dk_at dksX3_fraction_1 14 rfl rfl)
theorem dX3_fraction_38 : decode cX3_fraction 38 = .ok (.invokeinterface 25 4, 5) := by decide +kernel
theorem dX3_fraction_43 : decode cX3_fraction 43 = .ok (.lmul, 1) := dk_105 (dk_at dksX3_fraction_1 20 rfl rfl)
theorem dX3_fraction_44 : decode cX3_fraction 44 = .ok (.lload 6, 2) := dk_22 6 (dk_at dksX3_fraction_1 21 rfl rfl)
theorem dX3_fraction_46 : decode cX3_fraction 46 = .ok (.invokevirtual 30, 3) := dk_182 0 30 (dk_at dksX3_fraction_2 0 rfl rfl)
theorem dX3_fraction_49 : decode cX3_fraction 49 = .ok (.ireturn, 1) := dk_172 (dk_at dksX3_fraction_2 3 rfl rfl)
theorem q134 : (Jvm.Cond.initialized "ExemptDesk$Method") ∈ lw_all := lw_g (lw_at lw_m1 12 rfl) rfl
theorem q221 : (Jvm.Cond.selects "ExemptDesk$Method" ({ cls := "java/lang/Object", name := "getClass", desc := "()Ljava/lang/Class;" } : Jvm.MethodName) ({ cls := "java/lang/Object", name := "getClass", desc := "()Ljava/lang/Class;" } : Jvm.MethodName)) ∈ lw_all := lw_g (lw_at lw_m1 99 rfl) rfl
theorem q296 : (Jvm.Cond.instantiable "ExemptDesk$Method" (2 : Nat)) ∈ lw_all := lw_g (lw_at lw_m1 174 rfl) rfl
theorem q298 : (Jvm.Cond.instanceMethod ({ cls := "ExemptDesk$Method", name := "<init>", desc := "(I)V" } : Jvm.MethodName)) ∈ lw_all := lw_g (lw_at lw_m1 176 rfl) rfl
theorem q299 : (Jvm.Cond.code ({ cls := "ExemptDesk$Method", name := "<init>", desc := "(I)V" } : Jvm.MethodName) prog_6_method_1_code (2 : Nat) (Option.none : Option Jvm.ClassFile.FieldType)) ∈ lw_all := lw_g (lw_at lw_m1 177 rfl) rfl
theorem q300 : (Jvm.Cond.methodLink "ExemptDesk$Method" (1 : Nat) ({ cls := "java/lang/Object", name := "<init>", desc := "()V" } : Jvm.MethodName)) ∈ lw_all := lw_g (lw_at lw_m1 178 rfl) rfl
theorem q301 : (Jvm.Cond.static ({ cls := "ExemptDesk$Method", name := "lambda$new$0", desc := "(LExemptDesk$Sums;II)J" } : Jvm.MethodName)) ∈ lw_all := lw_g (lw_at lw_m1 179 rfl) rfl
theorem q302 : (Jvm.Cond.code ({ cls := "ExemptDesk$Method", name := "lambda$new$0", desc := "(LExemptDesk$Sums;II)J" } : Jvm.MethodName) prog_6_method_8_code (3 : Nat) (Option.some Jvm.ClassFile.FieldType.long)) ∈ lw_all := lw_g (lw_at lw_m1 180 rfl) rfl
theorem q303 : (Jvm.Cond.static ({ cls := "ExemptDesk$Method", name := "lambda$new$1", desc := "(LExemptDesk$Sums;II)J" } : Jvm.MethodName)) ∈ lw_all := lw_g (lw_at lw_m1 181 rfl) rfl
theorem q304 : (Jvm.Cond.code ({ cls := "ExemptDesk$Method", name := "lambda$new$1", desc := "(LExemptDesk$Sums;II)J" } : Jvm.MethodName) prog_6_method_7_code (3 : Nat) (Option.some Jvm.ClassFile.FieldType.long)) ∈ lw_all := lw_g (lw_at lw_m1 182 rfl) rfl
theorem q305 : (Jvm.Cond.static ({ cls := "ExemptDesk$Method", name := "lambda$new$2", desc := "(LExemptDesk$Sums;II)J" } : Jvm.MethodName)) ∈ lw_all := lw_g (lw_at lw_m1 183 rfl) rfl
theorem q306 : (Jvm.Cond.code ({ cls := "ExemptDesk$Method", name := "lambda$new$2", desc := "(LExemptDesk$Sums;II)J" } : Jvm.MethodName) prog_6_method_6_code (3 : Nat) (Option.some Jvm.ClassFile.FieldType.long)) ∈ lw_all := lw_g (lw_at lw_m1 184 rfl) rfl
theorem q307 : (Jvm.Cond.static ({ cls := "ExemptDesk$Method", name := "lambda$new$3", desc := "(LExemptDesk$Sums;II)J" } : Jvm.MethodName)) ∈ lw_all := lw_g (lw_at lw_m1 185 rfl) rfl
theorem q308 : (Jvm.Cond.code ({ cls := "ExemptDesk$Method", name := "lambda$new$3", desc := "(LExemptDesk$Sums;II)J" } : Jvm.MethodName) prog_6_method_5_code (3 : Nat) (Option.some Jvm.ClassFile.FieldType.long)) ∈ lw_all := lw_g (lw_at lw_m1 186 rfl) rfl
theorem q309 : (Jvm.Cond.static ({ cls := "ExemptDesk$Method", name := "lambda$new$4", desc := "(LExemptDesk$Sums;II)J" } : Jvm.MethodName)) ∈ lw_all := lw_g (lw_at lw_m1 187 rfl) rfl
theorem q310 : (Jvm.Cond.code ({ cls := "ExemptDesk$Method", name := "lambda$new$4", desc := "(LExemptDesk$Sums;II)J" } : Jvm.MethodName) prog_6_method_4_code (3 : Nat) (Option.some Jvm.ClassFile.FieldType.long)) ∈ lw_all := lw_g (lw_at lw_m1 188 rfl) rfl
theorem q311 : (Jvm.Cond.static ({ cls := "ExemptDesk$Method", name := "lambda$new$5", desc := "(LExemptDesk$Sums;II)J" } : Jvm.MethodName)) ∈ lw_all := lw_g (lw_at lw_m1 189 rfl) rfl
theorem q312 : (Jvm.Cond.code ({ cls := "ExemptDesk$Method", name := "lambda$new$5", desc := "(LExemptDesk$Sums;II)J" } : Jvm.MethodName) prog_6_method_3_code (3 : Nat) (Option.some Jvm.ClassFile.FieldType.long)) ∈ lw_all := lw_g (lw_at lw_m1 190 rfl) rfl
theorem q313 : (Jvm.Cond.fieldLink "ExemptDesk$Method" (11 : Nat) "ExemptDesk$Method" "own" "LExemptDesk$Part;") ∈ lw_all := lw_g (lw_at lw_m1 191 rfl) rfl
theorem q314 : (Jvm.Cond.fieldLink "ExemptDesk$Method" (18 : Nat) "ExemptDesk$Method" "all" "LExemptDesk$Part;") ∈ lw_all := lw_g (lw_at lw_m1 192 rfl) rfl
theorem q315 : (Jvm.Cond.laysFinal "ExemptDesk$Method" "ExemptDesk$Method" "own" "LExemptDesk$Part;") ∈ lw_all := lw_g (lw_at lw_m1 193 rfl) rfl
theorem q316 : (Jvm.Cond.soleField "ExemptDesk$Method" "own") ∈ lw_all := lw_g (lw_at lw_m1 194 rfl) rfl
theorem q317 : (Jvm.Cond.laysFinal "ExemptDesk$Method" "ExemptDesk$Method" "all" "LExemptDesk$Part;") ∈ lw_all := lw_g (lw_at lw_m1 195 rfl) rfl
theorem q318 : (Jvm.Cond.soleField "ExemptDesk$Method" "all") ∈ lw_all := lw_g (lw_at lw_m1 196 rfl) rfl
theorem q319 : (Jvm.Cond.superclass "ExemptDesk$Method" "java/lang/Object") ∈ lw_all := lw_g (lw_at lw_m1 197 rfl) rfl
theorem q507 : (Jvm.Cond.fieldLinkNest "ExemptDesk$Method" (36 : Nat) "ExemptDesk$Sums" "of" "[J" "ExemptDesk") ∈ lw_tbl := lw_at lw_m2 145 rfl
theorem q1849 : (Jvm.Cond.instanceMethod ({ cls := "ExemptDesk$Method", name := "fraction", desc := "(LExemptDesk$Sums;IIILExemptDesk$Way;)I" } : Jvm.MethodName)) ∈ lw_all := lw_g (lw_at lw_m8 47 rfl) rfl
theorem q1850 : (Jvm.Cond.selects "ExemptDesk$Method" ({ cls := "ExemptDesk$Method", name := "fraction", desc := "(LExemptDesk$Sums;IIILExemptDesk$Way;)I" } : Jvm.MethodName) ({ cls := "ExemptDesk$Method", name := "fraction", desc := "(LExemptDesk$Sums;IIILExemptDesk$Way;)I" } : Jvm.MethodName)) ∈ lw_all := lw_g (lw_at lw_m8 48 rfl) rfl
theorem q1851 : (Jvm.Cond.code ({ cls := "ExemptDesk$Method", name := "fraction", desc := "(LExemptDesk$Sums;IIILExemptDesk$Way;)I" } : Jvm.MethodName) prog_6_method_2_code (8 : Nat) (Option.some Jvm.ClassFile.FieldType.int)) ∈ lw_all := lw_g (lw_at lw_m8 49 rfl) rfl
theorem q1852 : (Jvm.Cond.interfaceEntry "ExemptDesk$Method" (25 : Nat)) ∈ lw_tbl := lw_at lw_m8 50 rfl
theorem q1853 : (Jvm.Cond.methodLink "ExemptDesk$Method" (25 : Nat) ({ cls := "ExemptDesk$Part", name := "of", desc := "(LExemptDesk$Sums;II)J" } : Jvm.MethodName)) ∈ lw_all := lw_g (lw_at lw_m8 51 rfl) rfl
theorem q1856 : (Jvm.Cond.methodLink "ExemptDesk$Method" (30 : Nat) ({ cls := "ExemptDesk$Way", name := "cut", desc := "(JJ)I" } : Jvm.MethodName)) ∈ lw_all := lw_g (lw_at lw_m8 54 rfl) rfl
theorem q2972 : (Jvm.Cond.castable "ExemptDesk$Method" "java/lang/Object") ∈ lw_tbl := lw_at lw_m12 210 rfl

abbrev cX4_init : ByteArray := prog_8_method_1_code
def yX4_init : MethodName := ⟨RX4, "<init>", "(LExemptDesk;)V"⟩
def dkwX4_init_0 : List UInt8 := [42, 43, 181, 0, 3, 42, 183, 0, 9, 177]
abbrev dktX4_init_0 : List UInt8 := dkwX4_init_0 ++ []
theorem dksX4_init_0 : cX4_init.data.toList.drop 0 = dktX4_init_0 := by decide +kernel
theorem dX4_init_0 : decode cX4_init 0 = .ok (.aload_n 0, 1) := dk_42 (dk_at dksX4_init_0 0 rfl rfl)
theorem dX4_init_1 : decode cX4_init 1 = .ok (.aload_n 1, 1) := dk_43 (dk_at dksX4_init_0 1 rfl rfl)
theorem dX4_init_2 : decode cX4_init 2 = .ok (.putfield 3, 3) := dk_181 0 3 (dk_at dksX4_init_0 2 rfl rfl)
theorem dX4_init_5 : decode cX4_init 5 = .ok (.aload_n 0, 1) := dk_42 (dk_at dksX4_init_0 5 rfl rfl)
theorem dX4_init_6 : decode cX4_init 6 = .ok (.invokespecial 9, 3) := dk_183 0 9 (dk_at dksX4_init_0 6 rfl rfl)
theorem dX4_init_9 : decode cX4_init 9 = .ok (.return_, 1) := dk_177 (dk_at dksX4_init_0 9 rfl rfl)
abbrev cX4_read : ByteArray := prog_8_method_8_code
def yX4_read : MethodName := ⟨RX4, "read", "(I)LExemptDesk$Text;"⟩
def dkwX4_read_2 : List UInt8 := [182, 0, 92, 176]
abbrev dktX4_read_2 : List UInt8 := dkwX4_read_2 ++ []
def dkwX4_read_1 : List UInt8 := [182, 0, 79, 42, 180, 0, 33, 7, 159, 0, 10, 42, 182, 0, 89, 167, 255, 244, 42, 180, 0, 85]
abbrev dktX4_read_1 : List UInt8 := dkwX4_read_1 ++ dktX4_read_2
def dkwX4_read_0 : List UInt8 := [42, 187, 0, 82, 89, 183, 0, 84, 181, 0, 85, 42, 3, 181, 0, 15, 42, 27, 181, 0, 19, 42]
abbrev dktX4_read_0 : List UInt8 := dkwX4_read_0 ++ dktX4_read_1
theorem dksX4_read_0 : cX4_read.data.toList.drop 0 = dktX4_read_0 := by decide +kernel
theorem dksX4_read_1 : cX4_read.data.toList.drop 22 = dktX4_read_1 := dk_seg dksX4_read_0 22 rfl rfl
theorem dksX4_read_2 : cX4_read.data.toList.drop 44 = dktX4_read_2 := dk_seg dksX4_read_1 22 rfl rfl
theorem dX4_read_0 : decode cX4_read 0 = .ok (.aload_n 0, 1) := dk_42 (dk_at dksX4_read_0 0 rfl rfl)
theorem dX4_read_1 : decode cX4_read 1 = .ok (.new 82, 3) := dk_187 0 82 (dk_at dksX4_read_0 1 rfl rfl)
theorem dX4_read_4 : decode cX4_read 4 = .ok (.dup, 1) := dk_89 (dk_at dksX4_read_0 4 rfl rfl)
theorem dX4_read_5 : decode cX4_read 5 = .ok (.invokespecial 84, 3) := dk_183 0 84 (dk_at dksX4_read_0 5 rfl rfl)
theorem dX4_read_8 : decode cX4_read 8 = .ok (.putfield 85, 3) := dk_181 0 85 (dk_at dksX4_read_0 8 rfl rfl)
theorem dX4_read_11 : decode cX4_read 11 = .ok (.aload_n 0, 1) := dk_42 (dk_at dksX4_read_0 11 rfl rfl)
theorem dX4_read_12 : decode cX4_read 12 = .ok (.iconst 0, 1) := dk_3 (dk_at dksX4_read_0 12 rfl rfl)
theorem dX4_read_13 : decode cX4_read 13 = .ok (.putfield 15, 3) := dk_181 0 15 (dk_at dksX4_read_0 13 rfl rfl)
theorem dX4_read_16 : decode cX4_read 16 = .ok (.aload_n 0, 1) := dk_42 (dk_at dksX4_read_0 16 rfl rfl)
theorem dX4_read_17 : decode cX4_read 17 = .ok (.iload_n 1, 1) := dk_27 (dk_at dksX4_read_0 17 rfl rfl)
theorem dX4_read_18 : decode cX4_read 18 = .ok (.putfield 19, 3) := dk_181 0 19 (dk_at dksX4_read_0 18 rfl rfl)
theorem dX4_read_21 : decode cX4_read 21 = .ok (.aload_n 0, 1) := dk_42 (dk_at dksX4_read_0 21 rfl rfl)
theorem dX4_read_22 : decode cX4_read 22 = .ok (.invokevirtual 79, 3) := dk_182 0 79 (dk_at dksX4_read_1 0 rfl rfl)
theorem dX4_read_25 : decode cX4_read 25 = .ok (.aload_n 0, 1) := dk_42 (dk_at dksX4_read_1 3 rfl rfl)
theorem dX4_read_26 : decode cX4_read 26 = .ok (.getfield 33, 3) := dk_180 0 33 (dk_at dksX4_read_1 4 rfl rfl)
theorem dX4_read_29 : decode cX4_read 29 = .ok (.iconst 4, 1) := dk_7 (dk_at dksX4_read_1 7 rfl rfl)
theorem dX4_read_30 : decode cX4_read 30 = .ok (.if_icmp .eq 10, 3) := dk_159 0 10 (dk_at dksX4_read_1 8 rfl rfl)
theorem dX4_read_33 : decode cX4_read 33 = .ok (.aload_n 0, 1) := dk_42 (dk_at dksX4_read_1 11 rfl rfl)
theorem dX4_read_34 : decode cX4_read 34 = .ok (.invokevirtual 89, 3) := dk_182 0 89 (dk_at dksX4_read_1 12 rfl rfl)
theorem dX4_read_37 : decode cX4_read 37 = .ok (.goto (-12), 3) := dk_167 255 244 (dk_at dksX4_read_1 15 rfl rfl)
theorem dX4_read_40 : decode cX4_read 40 = .ok (.aload_n 0, 1) := dk_42 (dk_at dksX4_read_1 18 rfl rfl)
theorem dX4_read_41 : decode cX4_read 41 = .ok (.getfield 85, 3) := dk_180 0 85 (dk_at dksX4_read_1 19 rfl rfl)
theorem dX4_read_44 : decode cX4_read 44 = .ok (.invokevirtual 92, 3) := dk_182 0 92 (dk_at dksX4_read_2 0 rfl rfl)
theorem dX4_read_47 : decode cX4_read 47 = .ok (.areturn, 1) := dk_176 (dk_at dksX4_read_2 3 rfl rfl)
abbrev cX4_next : ByteArray := prog_8_method_3_code
def yX4_next : MethodName := ⟨RX4, "next", "()V"⟩
def dkwX4_next_9 : List UInt8 := [160, 0, 7, 6, 167, 0, 4, 8, 181, 0, 33, 42, 89, 180, 0, 15, 4, 96, 181, 0, 15, 177]
abbrev dktX4_next_9 : List UInt8 := dkwX4_next_9 ++ []
def dkwX4_next_8 : List UInt8 := [100, 181, 0, 51, 42, 89, 180, 0, 15, 4, 96, 181, 0, 15, 167, 255, 194, 42, 42, 182, 0, 26, 16, 59]
abbrev dktX4_next_8 : List UInt8 := dkwX4_next_8 ++ dktX4_next_9
def dkwX4_next_7 : List UInt8 := [164, 0, 10, 42, 180, 0, 51, 167, 0, 18, 16, 10, 42, 180, 0, 51, 104, 42, 182, 0, 26, 96, 16, 48]
abbrev dktX4_next_7 : List UInt8 := dkwX4_next_7 ++ dktX4_next_8
def dkwX4_next_6 : List UInt8 := [182, 0, 26, 133, 20, 0, 47, 20, 0, 49, 184, 0, 40, 153, 0, 79, 42, 42, 180, 0, 51, 18, 54]
abbrev dktX4_next_6 : List UInt8 := dkwX4_next_6 ++ dktX4_next_7
def dkwX4_next_5 : List UInt8 := [20, 0, 47, 20, 0, 49, 184, 0, 40, 153, 0, 78, 42, 5, 181, 0, 33, 42, 3, 181, 0, 51, 42]
abbrev dktX4_next_5 : List UInt8 := dkwX4_next_5 ++ dktX4_next_6
def dkwX4_next_4 : List UInt8 := [89, 180, 0, 15, 4, 96, 181, 0, 15, 167, 255, 229, 42, 182, 0, 44, 167, 0, 123, 42, 182, 0, 26, 133]
abbrev dktX4_next_4 : List UInt8 := dkwX4_next_4 ++ dktX4_next_5
def dkwX4_next_3 : List UInt8 := [184, 0, 40, 153, 0, 40, 42, 182, 0, 26, 133, 20, 0, 36, 20, 0, 38, 184, 0, 40, 153, 0, 16, 42]
abbrev dktX4_next_3 : List UInt8 := dkwX4_next_3 ++ dktX4_next_4
def dkwX4_next_2 : List UInt8 := [160, 0, 11, 42, 7, 181, 0, 33, 167, 0, 177, 42, 182, 0, 26, 133, 20, 0, 36, 20, 0, 38]
abbrev dktX4_next_2 : List UInt8 := dkwX4_next_2 ++ dktX4_next_3
def dkwX4_next_1 : List UInt8 := [96, 181, 0, 15, 167, 255, 228, 42, 42, 180, 0, 15, 181, 0, 30, 42, 180, 0, 15, 42, 180, 0, 19]
abbrev dktX4_next_1 : List UInt8 := dkwX4_next_1 ++ dktX4_next_2
def dkwX4_next_0 : List UInt8 := [42, 182, 0, 26, 16, 10, 159, 0, 12, 42, 182, 0, 26, 16, 32, 160, 0, 16, 42, 89, 180, 0, 15, 4]
abbrev dktX4_next_0 : List UInt8 := dkwX4_next_0 ++ dktX4_next_1
theorem dksX4_next_0 : cX4_next.data.toList.drop 0 = dktX4_next_0 := by decide +kernel
theorem dksX4_next_1 : cX4_next.data.toList.drop 24 = dktX4_next_1 := dk_seg dksX4_next_0 24 rfl rfl
theorem dksX4_next_2 : cX4_next.data.toList.drop 47 = dktX4_next_2 := dk_seg dksX4_next_1 23 rfl rfl
theorem dksX4_next_3 : cX4_next.data.toList.drop 69 = dktX4_next_3 := dk_seg dksX4_next_2 22 rfl rfl
theorem dksX4_next_4 : cX4_next.data.toList.drop 93 = dktX4_next_4 := dk_seg dksX4_next_3 24 rfl rfl
theorem dksX4_next_5 : cX4_next.data.toList.drop 117 = dktX4_next_5 := dk_seg dksX4_next_4 24 rfl rfl
theorem dksX4_next_6 : cX4_next.data.toList.drop 140 = dktX4_next_6 := dk_seg dksX4_next_5 23 rfl rfl
theorem dksX4_next_7 : cX4_next.data.toList.drop 163 = dktX4_next_7 := dk_seg dksX4_next_6 23 rfl rfl
theorem dksX4_next_8 : cX4_next.data.toList.drop 187 = dktX4_next_8 := dk_seg dksX4_next_7 24 rfl rfl
theorem dksX4_next_9 : cX4_next.data.toList.drop 211 = dktX4_next_9 := dk_seg dksX4_next_8 24 rfl rfl
theorem dX4_next_0 : decode cX4_next 0 = .ok (.aload_n 0, 1) := dk_42 (dk_at dksX4_next_0 0 rfl rfl)
theorem dX4_next_1 : decode cX4_next 1 = .ok (.invokevirtual 26, 3) := dk_182 0 26 (dk_at dksX4_next_0 1 rfl rfl)
theorem dX4_next_4 : decode cX4_next 4 = .ok (.bipush 10, 2) := dk_16 10 (dk_at dksX4_next_0 4 rfl rfl)
theorem dX4_next_6 : decode cX4_next 6 = .ok (.if_icmp .eq 12, 3) := dk_159 0 12 (dk_at dksX4_next_0 6 rfl rfl)
theorem dX4_next_9 : decode cX4_next 9 = .ok (.aload_n 0, 1) := dk_42 (dk_at dksX4_next_0 9 rfl rfl)
theorem dX4_next_10 : decode cX4_next 10 = .ok (.invokevirtual 26, 3) := dk_182 0 26 (dk_at dksX4_next_0 10 rfl rfl)
theorem dX4_next_13 : decode cX4_next 13 = .ok (.bipush 32, 2) := dk_16 32 (dk_at dksX4_next_0 13 rfl rfl)
theorem dX4_next_15 : decode cX4_next 15 = .ok (.if_icmp .ne 16, 3) := dk_160 0 16 (dk_at dksX4_next_0 15 rfl rfl)
theorem dX4_next_18 : decode cX4_next 18 = .ok (.aload_n 0, 1) := dk_42 (dk_at dksX4_next_0 18 rfl rfl)
theorem dX4_next_19 : decode cX4_next 19 = .ok (.dup, 1) := dk_89 (dk_at dksX4_next_0 19 rfl rfl)
theorem dX4_next_20 : decode cX4_next 20 = .ok (.getfield 15, 3) := dk_180 0 15 (dk_at dksX4_next_0 20 rfl rfl)
theorem dX4_next_23 : decode cX4_next 23 = .ok (.iconst 1, 1) := dk_4 (dk_at dksX4_next_0 23 rfl rfl)
theorem dX4_next_24 : decode cX4_next 24 = .ok (.iadd, 1) := dk_96 (dk_at dksX4_next_1 0 rfl rfl)
theorem dX4_next_25 : decode cX4_next 25 = .ok (.putfield 15, 3) := dk_181 0 15 (dk_at dksX4_next_1 1 rfl rfl)
theorem dX4_next_28 : decode cX4_next 28 = .ok (.goto (-28), 3) := dk_167 255 228 (dk_at dksX4_next_1 4 rfl rfl)
theorem dX4_next_31 : decode cX4_next 31 = .ok (.aload_n 0, 1) := dk_42 (dk_at dksX4_next_1 7 rfl rfl)
theorem dX4_next_32 : decode cX4_next 32 = .ok (.aload_n 0, 1) := dk_42 (dk_at dksX4_next_1 8 rfl rfl)
theorem dX4_next_33 : decode cX4_next 33 = .ok (.getfield 15, 3) := dk_180 0 15 (dk_at dksX4_next_1 9 rfl rfl)
theorem dX4_next_36 : decode cX4_next 36 = .ok (.putfield 30, 3) := dk_181 0 30 (dk_at dksX4_next_1 12 rfl rfl)
theorem dX4_next_39 : decode cX4_next 39 = .ok (.aload_n 0, 1) := dk_42 (dk_at dksX4_next_1 15 rfl rfl)
theorem dX4_next_40 : decode cX4_next 40 = .ok (.getfield 15, 3) := dk_180 0 15 (dk_at dksX4_next_1 16 rfl rfl)
theorem dX4_next_43 : decode cX4_next 43 = .ok (.aload_n 0, 1) := dk_42 (dk_at dksX4_next_1 19 rfl rfl)
theorem dX4_next_44 : decode cX4_next 44 = .ok (.getfield 19, 3) := dk_180 0 19 (dk_at dksX4_next_1 20 rfl rfl)
theorem dX4_next_47 : decode cX4_next 47 = .ok (.if_icmp .ne 11, 3) := dk_160 0 11 (dk_at dksX4_next_2 0 rfl rfl)
theorem dX4_next_50 : decode cX4_next 50 = .ok (.aload_n 0, 1) := dk_42 (dk_at dksX4_next_2 3 rfl rfl)
theorem dX4_next_51 : decode cX4_next 51 = .ok (.iconst 4, 1) := dk_7 (dk_at dksX4_next_2 4 rfl rfl)
theorem dX4_next_52 : decode cX4_next 52 = .ok (.putfield 33, 3) := dk_181 0 33 (dk_at dksX4_next_2 5 rfl rfl)
theorem dX4_next_55 : decode cX4_next 55 = .ok (.goto 177, 3) := dk_167 0 177 (dk_at dksX4_next_2 8 rfl rfl)
theorem dX4_next_58 : decode cX4_next 58 = .ok (.aload_n 0, 1) := dk_42 (dk_at dksX4_next_2 11 rfl rfl)
theorem dX4_next_59 : decode cX4_next 59 = .ok (.invokevirtual 26, 3) := dk_182 0 26 (dk_at dksX4_next_2 12 rfl rfl)
theorem dX4_next_62 : decode cX4_next 62 = .ok (.i2l, 1) := dk_133 (dk_at dksX4_next_2 15 rfl rfl)
theorem dX4_next_63 : decode cX4_next 63 = .ok (.ldc2_w 36, 3) := dk_20 0 36 (dk_at dksX4_next_2 16 rfl rfl)
theorem dX4_next_66 : decode cX4_next 66 = .ok (.ldc2_w 38, 3) := dk_20 0 38 (dk_at dksX4_next_2 19 rfl rfl)
theorem dX4_next_69 : decode cX4_next 69 = .ok (.invokestatic 40, 3) := dk_184 0 40 (dk_at dksX4_next_3 0 rfl rfl)
theorem dX4_next_72 : decode cX4_next 72 = .ok (.ifCond .eq 40, 3) := dk_153 0 40 (dk_at dksX4_next_3 3 rfl rfl)
theorem dX4_next_75 : decode cX4_next 75 = .ok (.aload_n 0, 1) := dk_42 (dk_at dksX4_next_3 6 rfl rfl)
theorem dX4_next_76 : decode cX4_next 76 = .ok (.invokevirtual 26, 3) := dk_182 0 26 (dk_at dksX4_next_3 7 rfl rfl)
theorem dX4_next_79 : decode cX4_next 79 = .ok (.i2l, 1) := dk_133 (dk_at dksX4_next_3 10 rfl rfl)
theorem dX4_next_80 : decode cX4_next 80 = .ok (.ldc2_w 36, 3) := dk_20 0 36 (dk_at dksX4_next_3 11 rfl rfl)
theorem dX4_next_83 : decode cX4_next 83 = .ok (.ldc2_w 38, 3) := dk_20 0 38 (dk_at dksX4_next_3 14 rfl rfl)
theorem dX4_next_86 : decode cX4_next 86 = .ok (.invokestatic 40, 3) := dk_184 0 40 (dk_at dksX4_next_3 17 rfl rfl)
theorem dX4_next_89 : decode cX4_next 89 = .ok (.ifCond .eq 16, 3) := dk_153 0 16 (dk_at dksX4_next_3 20 rfl rfl)
theorem dX4_next_92 : decode cX4_next 92 = .ok (.aload_n 0, 1) := dk_42 (dk_at dksX4_next_3 23 rfl rfl)
theorem dX4_next_93 : decode cX4_next 93 = .ok (.dup, 1) := dk_89 (dk_at dksX4_next_4 0 rfl rfl)
theorem dX4_next_94 : decode cX4_next 94 = .ok (.getfield 15, 3) := dk_180 0 15 (dk_at dksX4_next_4 1 rfl rfl)
theorem dX4_next_97 : decode cX4_next 97 = .ok (.iconst 1, 1) := dk_4 (dk_at dksX4_next_4 4 rfl rfl)
theorem dX4_next_98 : decode cX4_next 98 = .ok (.iadd, 1) := dk_96 (dk_at dksX4_next_4 5 rfl rfl)
theorem dX4_next_99 : decode cX4_next 99 = .ok (.putfield 15, 3) := dk_181 0 15 (dk_at dksX4_next_4 6 rfl rfl)
theorem dX4_next_102 : decode cX4_next 102 = .ok (.goto (-27), 3) := dk_167 255 229 (dk_at dksX4_next_4 9 rfl rfl)
theorem dX4_next_105 : decode cX4_next 105 = .ok (.aload_n 0, 1) := dk_42 (dk_at dksX4_next_4 12 rfl rfl)
theorem dX4_next_106 : decode cX4_next 106 = .ok (.invokevirtual 44, 3) := dk_182 0 44 (dk_at dksX4_next_4 13 rfl rfl)
theorem dX4_next_109 : decode cX4_next 109 = .ok (.goto 123, 3) := dk_167 0 123 (dk_at dksX4_next_4 16 rfl rfl)
theorem dX4_next_112 : decode cX4_next 112 = .ok (.aload_n 0, 1) := dk_42 (dk_at dksX4_next_4 19 rfl rfl)
theorem dX4_next_113 : decode cX4_next 113 = .ok (.invokevirtual 26, 3) := dk_182 0 26 (dk_at dksX4_next_4 20 rfl rfl)
theorem dX4_next_116 : decode cX4_next 116 = .ok (.i2l, 1) := dk_133 (dk_at dksX4_next_4 23 rfl rfl)
theorem dX4_next_117 : decode cX4_next 117 = .ok (.ldc2_w 47, 3) := dk_20 0 47 (dk_at dksX4_next_5 0 rfl rfl)
theorem dX4_next_120 : decode cX4_next 120 = .ok (.ldc2_w 49, 3) := dk_20 0 49 (dk_at dksX4_next_5 3 rfl rfl)
theorem dX4_next_123 : decode cX4_next 123 = .ok (.invokestatic 40, 3) := dk_184 0 40 (dk_at dksX4_next_5 6 rfl rfl)
theorem dX4_next_126 : decode cX4_next 126 = .ok (.ifCond .eq 78, 3) := dk_153 0 78 (dk_at dksX4_next_5 9 rfl rfl)
theorem dX4_next_129 : decode cX4_next 129 = .ok (.aload_n 0, 1) := dk_42 (dk_at dksX4_next_5 12 rfl rfl)
theorem dX4_next_130 : decode cX4_next 130 = .ok (.iconst 2, 1) := dk_5 (dk_at dksX4_next_5 13 rfl rfl)
theorem dX4_next_131 : decode cX4_next 131 = .ok (.putfield 33, 3) := dk_181 0 33 (dk_at dksX4_next_5 14 rfl rfl)
theorem dX4_next_134 : decode cX4_next 134 = .ok (.aload_n 0, 1) := dk_42 (dk_at dksX4_next_5 17 rfl rfl)
theorem dX4_next_135 : decode cX4_next 135 = .ok (.iconst 0, 1) := dk_3 (dk_at dksX4_next_5 18 rfl rfl)
theorem dX4_next_136 : decode cX4_next 136 = .ok (.putfield 51, 3) := dk_181 0 51 (dk_at dksX4_next_5 19 rfl rfl)
theorem dX4_next_139 : decode cX4_next 139 = .ok (.aload_n 0, 1) := dk_42 (dk_at dksX4_next_5 22 rfl rfl)
theorem dX4_next_140 : decode cX4_next 140 = .ok (.invokevirtual 26, 3) := dk_182 0 26 (dk_at dksX4_next_6 0 rfl rfl)
theorem dX4_next_143 : decode cX4_next 143 = .ok (.i2l, 1) := dk_133 (dk_at dksX4_next_6 3 rfl rfl)
theorem dX4_next_144 : decode cX4_next 144 = .ok (.ldc2_w 47, 3) := dk_20 0 47 (dk_at dksX4_next_6 4 rfl rfl)
theorem dX4_next_147 : decode cX4_next 147 = .ok (.ldc2_w 49, 3) := dk_20 0 49 (dk_at dksX4_next_6 7 rfl rfl)
theorem dX4_next_150 : decode cX4_next 150 = .ok (.invokestatic 40, 3) := dk_184 0 40 (dk_at dksX4_next_6 10 rfl rfl)
theorem dX4_next_153 : decode cX4_next 153 = .ok (.ifCond .eq 79, 3) := dk_153 0 79 (dk_at dksX4_next_6 13 rfl rfl)
theorem dX4_next_156 : decode cX4_next 156 = .ok (.aload_n 0, 1) := dk_42 (dk_at dksX4_next_6 16 rfl rfl)
theorem dX4_next_157 : decode cX4_next 157 = .ok (.aload_n 0, 1) := dk_42 (dk_at dksX4_next_6 17 rfl rfl)
theorem dX4_next_158 : decode cX4_next 158 = .ok (.getfield 51, 3) := dk_180 0 51 (dk_at dksX4_next_6 18 rfl rfl)
theorem dX4_next_161 : decode cX4_next 161 = .ok (.ldc 54, 2) := dk_18 54 (dk_at dksX4_next_6 21 rfl rfl)
theorem dX4_next_163 : decode cX4_next 163 = .ok (.if_icmp .le 10, 3) := dk_164 0 10 (dk_at dksX4_next_7 0 rfl rfl)
theorem dX4_next_166 : decode cX4_next 166 = .ok (.aload_n 0, 1) := dk_42 (dk_at dksX4_next_7 3 rfl rfl)
theorem dX4_next_167 : decode cX4_next 167 = .ok (.getfield 51, 3) := dk_180 0 51 (dk_at dksX4_next_7 4 rfl rfl)
theorem dX4_next_170 : decode cX4_next 170 = .ok (.goto 18, 3) := dk_167 0 18 (dk_at dksX4_next_7 7 rfl rfl)
theorem dX4_next_173 : decode cX4_next 173 = .ok (.bipush 10, 2) := dk_16 10 (dk_at dksX4_next_7 10 rfl rfl)
theorem dX4_next_175 : decode cX4_next 175 = .ok (.aload_n 0, 1) := dk_42 (dk_at dksX4_next_7 12 rfl rfl)
theorem dX4_next_176 : decode cX4_next 176 = .ok (.getfield 51, 3) := dk_180 0 51 (dk_at dksX4_next_7 13 rfl rfl)
theorem dX4_next_179 : decode cX4_next 179 = .ok (.imul, 1) := dk_104 (dk_at dksX4_next_7 16 rfl rfl)
theorem dX4_next_180 : decode cX4_next 180 = .ok (.aload_n 0, 1) := dk_42 (dk_at dksX4_next_7 17 rfl rfl)
theorem dX4_next_181 : decode cX4_next 181 = .ok (.invokevirtual 26, 3) := dk_182 0 26 (dk_at dksX4_next_7 18 rfl rfl)
theorem dX4_next_184 : decode cX4_next 184 = .ok (.iadd, 1) := dk_96 (dk_at dksX4_next_7 21 rfl rfl)
theorem dX4_next_185 : decode cX4_next 185 = .ok (.bipush 48, 2) := dk_16 48 (dk_at dksX4_next_7 22 rfl rfl)
theorem dX4_next_187 : decode cX4_next 187 = .ok (.isub, 1) := dk_100 (dk_at dksX4_next_8 0 rfl rfl)
theorem dX4_next_188 : decode cX4_next 188 = .ok (.putfield 51, 3) := dk_181 0 51 (dk_at dksX4_next_8 1 rfl rfl)
theorem dX4_next_191 : decode cX4_next 191 = .ok (.aload_n 0, 1) := dk_42 (dk_at dksX4_next_8 4 rfl rfl)
theorem dX4_next_192 : decode cX4_next 192 = .ok (.dup, 1) := dk_89 (dk_at dksX4_next_8 5 rfl rfl)
theorem dX4_next_193 : decode cX4_next 193 = .ok (.getfield 15, 3) := dk_180 0 15 (dk_at dksX4_next_8 6 rfl rfl)
theorem dX4_next_196 : decode cX4_next 196 = .ok (.iconst 1, 1) := dk_4 (dk_at dksX4_next_8 9 rfl rfl)
theorem dX4_next_197 : decode cX4_next 197 = .ok (.iadd, 1) := dk_96 (dk_at dksX4_next_8 10 rfl rfl)
theorem dX4_next_198 : decode cX4_next 198 = .ok (.putfield 15, 3) := dk_181 0 15 (dk_at dksX4_next_8 11 rfl rfl)
theorem dX4_next_201 : decode cX4_next 201 = .ok (.goto (-62), 3) := dk_167 255 194 (dk_at dksX4_next_8 14 rfl rfl)
theorem dX4_next_204 : decode cX4_next 204 = .ok (.aload_n 0, 1) := dk_42 (dk_at dksX4_next_8 17 rfl rfl)
theorem dX4_next_205 : decode cX4_next 205 = .ok (.aload_n 0, 1) := dk_42 (dk_at dksX4_next_8 18 rfl rfl)
theorem dX4_next_206 : decode cX4_next 206 = .ok (.invokevirtual 26, 3) := dk_182 0 26 (dk_at dksX4_next_8 19 rfl rfl)
theorem dX4_next_209 : decode cX4_next 209 = .ok (.bipush 59, 2) := dk_16 59 (dk_at dksX4_next_8 22 rfl rfl)
theorem dX4_next_211 : decode cX4_next 211 = .ok (.if_icmp .ne 7, 3) := dk_160 0 7 (dk_at dksX4_next_9 0 rfl rfl)
theorem dX4_next_214 : decode cX4_next 214 = .ok (.iconst 3, 1) := dk_6 (dk_at dksX4_next_9 3 rfl rfl)
theorem dX4_next_215 : decode cX4_next 215 = .ok (.goto 4, 3) := dk_167 0 4 (dk_at dksX4_next_9 4 rfl rfl)
theorem dX4_next_218 : decode cX4_next 218 = .ok (.iconst 5, 1) := dk_8 (dk_at dksX4_next_9 7 rfl rfl)
theorem dX4_next_219 : decode cX4_next 219 = .ok (.putfield 33, 3) := dk_181 0 33 (dk_at dksX4_next_9 8 rfl rfl)
theorem dX4_next_222 : decode cX4_next 222 = .ok (.aload_n 0, 1) := dk_42 (dk_at dksX4_next_9 11 rfl rfl)
theorem dX4_next_223 : decode cX4_next 223 = .ok (.dup, 1) := dk_89 (dk_at dksX4_next_9 12 rfl rfl)
theorem dX4_next_224 : decode cX4_next 224 = .ok (.getfield 15, 3) := dk_180 0 15 (dk_at dksX4_next_9 13 rfl rfl)
theorem dX4_next_227 : decode cX4_next 227 = .ok (.iconst 1, 1) := dk_4 (dk_at dksX4_next_9 16 rfl rfl)
theorem dX4_next_228 : decode cX4_next 228 = .ok (.iadd, 1) := dk_96 (dk_at dksX4_next_9 17 rfl rfl)
theorem dX4_next_229 : decode cX4_next 229 = .ok (.putfield 15, 3) := dk_181 0 15 (dk_at dksX4_next_9 18 rfl rfl)
theorem dX4_next_232 : decode cX4_next 232 = .ok (.return_, 1) := dk_177 (dk_at dksX4_next_9 21 rfl rfl)
abbrev cX4_here : ByteArray := prog_8_method_2_code
def yX4_here : MethodName := ⟨RX4, "here", "()I"⟩
def dkwX4_here_1 : List UInt8 := [17, 0, 255, 126, 167, 0, 4, 2, 172]
abbrev dktX4_here_1 : List UInt8 := dkwX4_here_1 ++ []
def dkwX4_here_0 : List UInt8 := [42, 180, 0, 15, 42, 180, 0, 19, 162, 0, 22, 42, 180, 0, 3, 180, 0, 22, 42, 180, 0, 15, 51]
abbrev dktX4_here_0 : List UInt8 := dkwX4_here_0 ++ dktX4_here_1
theorem dksX4_here_0 : cX4_here.data.toList.drop 0 = dktX4_here_0 := by decide +kernel
theorem dksX4_here_1 : cX4_here.data.toList.drop 23 = dktX4_here_1 := dk_seg dksX4_here_0 23 rfl rfl
theorem dX4_here_0 : decode cX4_here 0 = .ok (.aload_n 0, 1) := dk_42 (dk_at dksX4_here_0 0 rfl rfl)
theorem dX4_here_1 : decode cX4_here 1 = .ok (.getfield 15, 3) := dk_180 0 15 (dk_at dksX4_here_0 1 rfl rfl)
theorem dX4_here_4 : decode cX4_here 4 = .ok (.aload_n 0, 1) := dk_42 (dk_at dksX4_here_0 4 rfl rfl)
theorem dX4_here_5 : decode cX4_here 5 = .ok (.getfield 19, 3) := dk_180 0 19 (dk_at dksX4_here_0 5 rfl rfl)
theorem dX4_here_8 : decode cX4_here 8 = .ok (.if_icmp .ge 22, 3) := dk_162 0 22 (dk_at dksX4_here_0 8 rfl rfl)
theorem dX4_here_11 : decode cX4_here 11 = .ok (.aload_n 0, 1) := dk_42 (dk_at dksX4_here_0 11 rfl rfl)
theorem dX4_here_12 : decode cX4_here 12 = .ok (.getfield 3, 3) := dk_180 0 3 (dk_at dksX4_here_0 12 rfl rfl)
theorem dX4_here_15 : decode cX4_here 15 = .ok (.getfield 22, 3) := dk_180 0 22 (dk_at dksX4_here_0 15 rfl rfl)
theorem dX4_here_18 : decode cX4_here 18 = .ok (.aload_n 0, 1) := dk_42 (dk_at dksX4_here_0 18 rfl rfl)
theorem dX4_here_19 : decode cX4_here 19 = .ok (.getfield 15, 3) := dk_180 0 15 (dk_at dksX4_here_0 19 rfl rfl)
theorem dX4_here_22 : decode cX4_here 22 = .ok (.baload, 1) := dk_51 (dk_at dksX4_here_0 22 rfl rfl)
theorem dX4_here_23 : decode cX4_here 23 = .ok (.sipush 255, 3) := dk_17 0 255 (dk_at dksX4_here_1 0 rfl rfl)
theorem dX4_here_26 : decode cX4_here 26 = .ok (.iand, 1) := dk_126 (dk_at dksX4_here_1 3 rfl rfl)
theorem dX4_here_27 : decode cX4_here 27 = .ok (.goto 4, 3) := dk_167 0 4 (dk_at dksX4_here_1 4 rfl rfl)
theorem dX4_here_30 : decode cX4_here 30 = .ok (.iconst (-1), 1) := dk_2 (dk_at dksX4_here_1 7 rfl rfl)
theorem dX4_here_31 : decode cX4_here 31 = .ok (.ireturn, 1) := dk_172 (dk_at dksX4_here_1 8 rfl rfl)
abbrev cX4_letters : ByteArray := prog_8_method_4_code
def yX4_letters : MethodName := ⟨RX4, "letters", "()V"⟩
def dkwX4_letters_5 : List UInt8 := [132, 1, 1, 167, 255, 200, 177]
abbrev dktX4_letters_5 : List UInt8 := dkwX4_letters_5 ++ []
def dkwX4_letters_4 : List UInt8 := [180, 0, 22, 42, 180, 0, 30, 27, 96, 51, 16, 97, 100, 4, 96, 167, 0, 4, 3, 128, 181, 0, 51]
abbrev dktX4_letters_4 : List UInt8 := dkwX4_letters_4 ++ dktX4_letters_5
def dkwX4_letters_3 : List UInt8 := [180, 0, 51, 8, 120, 42, 180, 0, 30, 27, 96, 42, 180, 0, 15, 162, 0, 25, 42, 180, 0, 3]
abbrev dktX4_letters_3 : List UInt8 := dkwX4_letters_3 ++ dktX4_letters_4
def dkwX4_letters_2 : List UInt8 := [180, 0, 33, 4, 159, 0, 4, 177, 42, 3, 181, 0, 51, 3, 60, 27, 16, 6, 162, 0, 56, 42, 42]
abbrev dktX4_letters_2 : List UInt8 := dkwX4_letters_2 ++ dktX4_letters_3
def dkwX4_letters_1 : List UInt8 := [180, 0, 15, 42, 180, 0, 30, 100, 16, 6, 164, 0, 7, 8, 167, 0, 4, 4, 181, 0, 33, 42]
abbrev dktX4_letters_1 : List UInt8 := dkwX4_letters_1 ++ dktX4_letters_2
def dkwX4_letters_0 : List UInt8 := [42, 42, 182, 0, 55, 181, 0, 51, 42, 42, 180, 0, 51, 2, 159, 0, 7, 3, 167, 0, 22, 42]
abbrev dktX4_letters_0 : List UInt8 := dkwX4_letters_0 ++ dktX4_letters_1
theorem dksX4_letters_0 : cX4_letters.data.toList.drop 0 = dktX4_letters_0 := by decide +kernel
theorem dksX4_letters_1 : cX4_letters.data.toList.drop 22 = dktX4_letters_1 := dk_seg dksX4_letters_0 22 rfl rfl
theorem dksX4_letters_2 : cX4_letters.data.toList.drop 44 = dktX4_letters_2 := dk_seg dksX4_letters_1 22 rfl rfl
theorem dksX4_letters_3 : cX4_letters.data.toList.drop 67 = dktX4_letters_3 := dk_seg dksX4_letters_2 23 rfl rfl
theorem dksX4_letters_4 : cX4_letters.data.toList.drop 89 = dktX4_letters_4 := dk_seg dksX4_letters_3 22 rfl rfl
theorem dksX4_letters_5 : cX4_letters.data.toList.drop 112 = dktX4_letters_5 := dk_seg dksX4_letters_4 23 rfl rfl
theorem dX4_letters_0 : decode cX4_letters 0 = .ok (.aload_n 0, 1) := dk_42 (dk_at dksX4_letters_0 0 rfl rfl)
theorem dX4_letters_1 : decode cX4_letters 1 = .ok (.aload_n 0, 1) := dk_42 (dk_at dksX4_letters_0 1 rfl rfl)
theorem dX4_letters_2 : decode cX4_letters 2 = .ok (.invokevirtual 55, 3) := dk_182 0 55 (dk_at dksX4_letters_0 2 rfl rfl)
theorem dX4_letters_5 : decode cX4_letters 5 = .ok (.putfield 51, 3) := dk_181 0 51 (dk_at dksX4_letters_0 5 rfl rfl)
theorem dX4_letters_8 : decode cX4_letters 8 = .ok (.aload_n 0, 1) := dk_42 (dk_at dksX4_letters_0 8 rfl rfl)
theorem dX4_letters_9 : decode cX4_letters 9 = .ok (.aload_n 0, 1) := dk_42 (dk_at dksX4_letters_0 9 rfl rfl)
theorem dX4_letters_10 : decode cX4_letters 10 = .ok (.getfield 51, 3) := dk_180 0 51 (dk_at dksX4_letters_0 10 rfl rfl)
theorem dX4_letters_13 : decode cX4_letters 13 = .ok (.iconst (-1), 1) := dk_2 (dk_at dksX4_letters_0 13 rfl rfl)
theorem dX4_letters_14 : decode cX4_letters 14 = .ok (.if_icmp .eq 7, 3) := dk_159 0 7 (dk_at dksX4_letters_0 14 rfl rfl)
theorem dX4_letters_17 : decode cX4_letters 17 = .ok (.iconst 0, 1) := dk_3 (dk_at dksX4_letters_0 17 rfl rfl)
theorem dX4_letters_18 : decode cX4_letters 18 = .ok (.goto 22, 3) := dk_167 0 22 (dk_at dksX4_letters_0 18 rfl rfl)
theorem dX4_letters_21 : decode cX4_letters 21 = .ok (.aload_n 0, 1) := dk_42 (dk_at dksX4_letters_0 21 rfl rfl)
theorem dX4_letters_22 : decode cX4_letters 22 = .ok (.getfield 15, 3) := dk_180 0 15 (dk_at dksX4_letters_1 0 rfl rfl)
theorem dX4_letters_25 : decode cX4_letters 25 = .ok (.aload_n 0, 1) := dk_42 (dk_at dksX4_letters_1 3 rfl rfl)
theorem dX4_letters_26 : decode cX4_letters 26 = .ok (.getfield 30, 3) := dk_180 0 30 (dk_at dksX4_letters_1 4 rfl rfl)
theorem dX4_letters_29 : decode cX4_letters 29 = .ok (.isub, 1) := dk_100 (dk_at dksX4_letters_1 7 rfl rfl)
theorem dX4_letters_30 : decode cX4_letters 30 = .ok (.bipush 6, 2) := dk_16 6 (dk_at dksX4_letters_1 8 rfl rfl)
theorem dX4_letters_32 : decode cX4_letters 32 = .ok (.if_icmp .le 7, 3) := dk_164 0 7 (dk_at dksX4_letters_1 10 rfl rfl)
theorem dX4_letters_35 : decode cX4_letters 35 = .ok (.iconst 5, 1) := dk_8 (dk_at dksX4_letters_1 13 rfl rfl)
theorem dX4_letters_36 : decode cX4_letters 36 = .ok (.goto 4, 3) := dk_167 0 4 (dk_at dksX4_letters_1 14 rfl rfl)
theorem dX4_letters_39 : decode cX4_letters 39 = .ok (.iconst 1, 1) := dk_4 (dk_at dksX4_letters_1 17 rfl rfl)
theorem dX4_letters_40 : decode cX4_letters 40 = .ok (.putfield 33, 3) := dk_181 0 33 (dk_at dksX4_letters_1 18 rfl rfl)
theorem dX4_letters_43 : decode cX4_letters 43 = .ok (.aload_n 0, 1) := dk_42 (dk_at dksX4_letters_1 21 rfl rfl)
theorem dX4_letters_44 : decode cX4_letters 44 = .ok (.getfield 33, 3) := dk_180 0 33 (dk_at dksX4_letters_2 0 rfl rfl)
theorem dX4_letters_47 : decode cX4_letters 47 = .ok (.iconst 1, 1) := dk_4 (dk_at dksX4_letters_2 3 rfl rfl)
theorem dX4_letters_48 : decode cX4_letters 48 = .ok (.if_icmp .eq 4, 3) := dk_159 0 4 (dk_at dksX4_letters_2 4 rfl rfl)
theorem dX4_letters_51 : decode cX4_letters 51 = .ok (.return_, 1) := dk_177 (dk_at dksX4_letters_2 7 rfl rfl)
theorem dX4_letters_52 : decode cX4_letters 52 = .ok (.aload_n 0, 1) := dk_42 (dk_at dksX4_letters_2 8 rfl rfl)
theorem dX4_letters_53 : decode cX4_letters 53 = .ok (.iconst 0, 1) := dk_3 (dk_at dksX4_letters_2 9 rfl rfl)
theorem dX4_letters_54 : decode cX4_letters 54 = .ok (.putfield 51, 3) := dk_181 0 51 (dk_at dksX4_letters_2 10 rfl rfl)
theorem dX4_letters_57 : decode cX4_letters 57 = .ok (.iconst 0, 1) := dk_3 (dk_at dksX4_letters_2 13 rfl rfl)
theorem dX4_letters_58 : decode cX4_letters 58 = .ok (.istore_n 1, 1) := dk_60 (dk_at dksX4_letters_2 14 rfl rfl)
theorem dX4_letters_59 : decode cX4_letters 59 = .ok (.iload_n 1, 1) := dk_27 (dk_at dksX4_letters_2 15 rfl rfl)
theorem dX4_letters_60 : decode cX4_letters 60 = .ok (.bipush 6, 2) := dk_16 6 (dk_at dksX4_letters_2 16 rfl rfl)
theorem dX4_letters_62 : decode cX4_letters 62 = .ok (.if_icmp .ge 56, 3) := dk_162 0 56 (dk_at dksX4_letters_2 18 rfl rfl)
theorem dX4_letters_65 : decode cX4_letters 65 = .ok (.aload_n 0, 1) := dk_42 (dk_at dksX4_letters_2 21 rfl rfl)
theorem dX4_letters_66 : decode cX4_letters 66 = .ok (.aload_n 0, 1) := dk_42 (dk_at dksX4_letters_2 22 rfl rfl)
theorem dX4_letters_67 : decode cX4_letters 67 = .ok (.getfield 51, 3) := dk_180 0 51 (dk_at dksX4_letters_3 0 rfl rfl)
theorem dX4_letters_70 : decode cX4_letters 70 = .ok (.iconst 5, 1) := dk_8 (dk_at dksX4_letters_3 3 rfl rfl)
theorem dX4_letters_71 : decode cX4_letters 71 = .ok (.ishl, 1) := dk_120 (dk_at dksX4_letters_3 4 rfl rfl)
theorem dX4_letters_72 : decode cX4_letters 72 = .ok (.aload_n 0, 1) := dk_42 (dk_at dksX4_letters_3 5 rfl rfl)
theorem dX4_letters_73 : decode cX4_letters 73 = .ok (.getfield 30, 3) := dk_180 0 30 (dk_at dksX4_letters_3 6 rfl rfl)
theorem dX4_letters_76 : decode cX4_letters 76 = .ok (.iload_n 1, 1) := dk_27 (dk_at dksX4_letters_3 9 rfl rfl)
theorem dX4_letters_77 : decode cX4_letters 77 = .ok (.iadd, 1) := dk_96 (dk_at dksX4_letters_3 10 rfl rfl)
theorem dX4_letters_78 : decode cX4_letters 78 = .ok (.aload_n 0, 1) := dk_42 (dk_at dksX4_letters_3 11 rfl rfl)
theorem dX4_letters_79 : decode cX4_letters 79 = .ok (.getfield 15, 3) := dk_180 0 15 (dk_at dksX4_letters_3 12 rfl rfl)
theorem dX4_letters_82 : decode cX4_letters 82 = .ok (.if_icmp .ge 25, 3) := dk_162 0 25 (dk_at dksX4_letters_3 15 rfl rfl)
theorem dX4_letters_85 : decode cX4_letters 85 = .ok (.aload_n 0, 1) := dk_42 (dk_at dksX4_letters_3 18 rfl rfl)
theorem dX4_letters_86 : decode cX4_letters 86 = .ok (.getfield 3, 3) := dk_180 0 3 (dk_at dksX4_letters_3 19 rfl rfl)
theorem dX4_letters_89 : decode cX4_letters 89 = .ok (.getfield 22, 3) := dk_180 0 22 (dk_at dksX4_letters_4 0 rfl rfl)
theorem dX4_letters_92 : decode cX4_letters 92 = .ok (.aload_n 0, 1) := dk_42 (dk_at dksX4_letters_4 3 rfl rfl)
theorem dX4_letters_93 : decode cX4_letters 93 = .ok (.getfield 30, 3) := dk_180 0 30 (dk_at dksX4_letters_4 4 rfl rfl)
theorem dX4_letters_96 : decode cX4_letters 96 = .ok (.iload_n 1, 1) := dk_27 (dk_at dksX4_letters_4 7 rfl rfl)
theorem dX4_letters_97 : decode cX4_letters 97 = .ok (.iadd, 1) := dk_96 (dk_at dksX4_letters_4 8 rfl rfl)
theorem dX4_letters_98 : decode cX4_letters 98 = .ok (.baload, 1) := dk_51 (dk_at dksX4_letters_4 9 rfl rfl)
theorem dX4_letters_99 : decode cX4_letters 99 = .ok (.bipush 97, 2) := dk_16 97 (dk_at dksX4_letters_4 10 rfl rfl)
theorem dX4_letters_101 : decode cX4_letters 101 = .ok (.isub, 1) := dk_100 (dk_at dksX4_letters_4 12 rfl rfl)
theorem dX4_letters_102 : decode cX4_letters 102 = .ok (.iconst 1, 1) := dk_4 (dk_at dksX4_letters_4 13 rfl rfl)
theorem dX4_letters_103 : decode cX4_letters 103 = .ok (.iadd, 1) := dk_96 (dk_at dksX4_letters_4 14 rfl rfl)
theorem dX4_letters_104 : decode cX4_letters 104 = .ok (.goto 4, 3) := dk_167 0 4 (dk_at dksX4_letters_4 15 rfl rfl)
theorem dX4_letters_107 : decode cX4_letters 107 = .ok (.iconst 0, 1) := dk_3 (dk_at dksX4_letters_4 18 rfl rfl)
theorem dX4_letters_108 : decode cX4_letters 108 = .ok (.ior, 1) := dk_128 (dk_at dksX4_letters_4 19 rfl rfl)
theorem dX4_letters_109 : decode cX4_letters 109 = .ok (.putfield 51, 3) := dk_181 0 51 (dk_at dksX4_letters_4 20 rfl rfl)
theorem dX4_letters_112 : decode cX4_letters 112 = .ok (.iinc 1 1, 3) := dk_132 1 1 (dk_at dksX4_letters_5 0 rfl rfl)
theorem dX4_letters_115 : decode cX4_letters 115 = .ok (.goto (-56), 3) := dk_167 255 200 (dk_at dksX4_letters_5 3 rfl rfl)
theorem dX4_letters_118 : decode cX4_letters 118 = .ok (.return_, 1) := dk_177 (dk_at dksX4_letters_5 6 rfl rfl)
abbrev cX4_word : ByteArray := prog_8_method_5_code
def yX4_word : MethodName := ⟨RX4, "word", "()I"⟩
def dkwX4_word_4 : List UInt8 := [27, 172, 132, 1, 1, 167, 255, 160, 2, 172]
abbrev dktX4_word_4 : List UInt8 := dkwX4_word_4 ++ []
def dkwX4_word_3 : List UInt8 := [96, 51, 160, 0, 9, 132, 2, 1, 167, 255, 214, 42, 180, 0, 30, 28, 96, 42, 180, 0, 15, 160, 0, 5]
abbrev dktX4_word_3 : List UInt8 := dkwX4_word_3 ++ dktX4_word_4
def dkwX4_word_2 : List UInt8 := [162, 0, 35, 178, 0, 58, 27, 50, 28, 182, 0, 66, 42, 180, 0, 3, 180, 0, 22, 42, 180, 0, 30, 28]
abbrev dktX4_word_2 : List UInt8 := dkwX4_word_2 ++ dktX4_word_3
def dkwX4_word_1 : List UInt8 := [180, 0, 30, 100, 159, 0, 6, 167, 0, 65, 3, 61, 42, 180, 0, 30, 28, 96, 42, 180, 0, 15]
abbrev dktX4_word_1 : List UInt8 := dkwX4_word_1 ++ dktX4_word_2
def dkwX4_word_0 : List UInt8 := [3, 60, 27, 178, 0, 58, 190, 162, 0, 94, 178, 0, 58, 27, 50, 182, 0, 62, 42, 180, 0, 15, 42]
abbrev dktX4_word_0 : List UInt8 := dkwX4_word_0 ++ dktX4_word_1
theorem dksX4_word_0 : cX4_word.data.toList.drop 0 = dktX4_word_0 := by decide +kernel
theorem dksX4_word_1 : cX4_word.data.toList.drop 23 = dktX4_word_1 := dk_seg dksX4_word_0 23 rfl rfl
theorem dksX4_word_2 : cX4_word.data.toList.drop 45 = dktX4_word_2 := dk_seg dksX4_word_1 22 rfl rfl
theorem dksX4_word_3 : cX4_word.data.toList.drop 69 = dktX4_word_3 := dk_seg dksX4_word_2 24 rfl rfl
theorem dksX4_word_4 : cX4_word.data.toList.drop 93 = dktX4_word_4 := dk_seg dksX4_word_3 24 rfl rfl
theorem dX4_word_0 : decode cX4_word 0 = .ok (.iconst 0, 1) := dk_3 (dk_at dksX4_word_0 0 rfl rfl)
theorem dX4_word_1 : decode cX4_word 1 = .ok (.istore_n 1, 1) := dk_60 (dk_at dksX4_word_0 1 rfl rfl)
theorem dX4_word_2 : decode cX4_word 2 = .ok (.iload_n 1, 1) := dk_27 (dk_at dksX4_word_0 2 rfl rfl)
theorem dX4_word_3 : decode cX4_word 3 = .ok (.getstatic 58, 3) := dk_178 0 58 (dk_at dksX4_word_0 3 rfl rfl)
theorem dX4_word_6 : decode cX4_word 6 = .ok (.arraylength, 1) := dk_190 (dk_at dksX4_word_0 6 rfl rfl)
theorem dX4_word_7 : decode cX4_word 7 = .ok (.if_icmp .ge 94, 3) := dk_162 0 94 (dk_at dksX4_word_0 7 rfl rfl)
theorem dX4_word_10 : decode cX4_word 10 = .ok (.getstatic 58, 3) := dk_178 0 58 (dk_at dksX4_word_0 10 rfl rfl)
theorem dX4_word_13 : decode cX4_word 13 = .ok (.iload_n 1, 1) := dk_27 (dk_at dksX4_word_0 13 rfl rfl)
theorem dX4_word_14 : decode cX4_word 14 = .ok (.aaload, 1) := dk_50 (dk_at dksX4_word_0 14 rfl rfl)
theorem dX4_word_15 : decode cX4_word 15 = .ok (.invokevirtual 62, 3) := dk_182 0 62 (dk_at dksX4_word_0 15 rfl rfl)
theorem dX4_word_18 : decode cX4_word 18 = .ok (.aload_n 0, 1) := dk_42 (dk_at dksX4_word_0 18 rfl rfl)
theorem dX4_word_19 : decode cX4_word 19 = .ok (.getfield 15, 3) := dk_180 0 15 (dk_at dksX4_word_0 19 rfl rfl)
theorem dX4_word_22 : decode cX4_word 22 = .ok (.aload_n 0, 1) := dk_42 (dk_at dksX4_word_0 22 rfl rfl)
theorem dX4_word_23 : decode cX4_word 23 = .ok (.getfield 30, 3) := dk_180 0 30 (dk_at dksX4_word_1 0 rfl rfl)
theorem dX4_word_26 : decode cX4_word 26 = .ok (.isub, 1) := dk_100 (dk_at dksX4_word_1 3 rfl rfl)
theorem dX4_word_27 : decode cX4_word 27 = .ok (.if_icmp .eq 6, 3) := dk_159 0 6 (dk_at dksX4_word_1 4 rfl rfl)
theorem dX4_word_30 : decode cX4_word 30 = .ok (.goto 65, 3) := dk_167 0 65 (dk_at dksX4_word_1 7 rfl rfl)
theorem dX4_word_33 : decode cX4_word 33 = .ok (.iconst 0, 1) := dk_3 (dk_at dksX4_word_1 10 rfl rfl)
theorem dX4_word_34 : decode cX4_word 34 = .ok (.istore_n 2, 1) := dk_61 (dk_at dksX4_word_1 11 rfl rfl)
theorem dX4_word_35 : decode cX4_word 35 = .ok (.aload_n 0, 1) := dk_42 (dk_at dksX4_word_1 12 rfl rfl)
theorem dX4_word_36 : decode cX4_word 36 = .ok (.getfield 30, 3) := dk_180 0 30 (dk_at dksX4_word_1 13 rfl rfl)
theorem dX4_word_39 : decode cX4_word 39 = .ok (.iload_n 2, 1) := dk_28 (dk_at dksX4_word_1 16 rfl rfl)
theorem dX4_word_40 : decode cX4_word 40 = .ok (.iadd, 1) := dk_96 (dk_at dksX4_word_1 17 rfl rfl)
theorem dX4_word_41 : decode cX4_word 41 = .ok (.aload_n 0, 1) := dk_42 (dk_at dksX4_word_1 18 rfl rfl)
theorem dX4_word_42 : decode cX4_word 42 = .ok (.getfield 15, 3) := dk_180 0 15 (dk_at dksX4_word_1 19 rfl rfl)
theorem dX4_word_45 : decode cX4_word 45 = .ok (.if_icmp .ge 35, 3) := dk_162 0 35 (dk_at dksX4_word_2 0 rfl rfl)
theorem dX4_word_48 : decode cX4_word 48 = .ok (.getstatic 58, 3) := dk_178 0 58 (dk_at dksX4_word_2 3 rfl rfl)
theorem dX4_word_51 : decode cX4_word 51 = .ok (.iload_n 1, 1) := dk_27 (dk_at dksX4_word_2 6 rfl rfl)
theorem dX4_word_52 : decode cX4_word 52 = .ok (.aaload, 1) := dk_50 (dk_at dksX4_word_2 7 rfl rfl)
theorem dX4_word_53 : decode cX4_word 53 = .ok (.iload_n 2, 1) := dk_28 (dk_at dksX4_word_2 8 rfl rfl)
theorem dX4_word_54 : decode cX4_word 54 = .ok (.invokevirtual 66, 3) := dk_182 0 66 (dk_at dksX4_word_2 9 rfl rfl)
theorem dX4_word_57 : decode cX4_word 57 = .ok (.aload_n 0, 1) := dk_42 (dk_at dksX4_word_2 12 rfl rfl)
theorem dX4_word_58 : decode cX4_word 58 = .ok (.getfield 3, 3) := dk_180 0 3 (dk_at dksX4_word_2 13 rfl rfl)
theorem dX4_word_61 : decode cX4_word 61 = .ok (.getfield 22, 3) := dk_180 0 22 (dk_at dksX4_word_2 16 rfl rfl)
theorem dX4_word_64 : decode cX4_word 64 = .ok (.aload_n 0, 1) := dk_42 (dk_at dksX4_word_2 19 rfl rfl)
theorem dX4_word_65 : decode cX4_word 65 = .ok (.getfield 30, 3) := dk_180 0 30 (dk_at dksX4_word_2 20 rfl rfl)
theorem dX4_word_68 : decode cX4_word 68 = .ok (.iload_n 2, 1) := dk_28 (dk_at dksX4_word_2 23 rfl rfl)
theorem dX4_word_69 : decode cX4_word 69 = .ok (.iadd, 1) := dk_96 (dk_at dksX4_word_3 0 rfl rfl)
theorem dX4_word_70 : decode cX4_word 70 = .ok (.baload, 1) := dk_51 (dk_at dksX4_word_3 1 rfl rfl)
theorem dX4_word_71 : decode cX4_word 71 = .ok (.if_icmp .ne 9, 3) := dk_160 0 9 (dk_at dksX4_word_3 2 rfl rfl)
theorem dX4_word_74 : decode cX4_word 74 = .ok (.iinc 2 1, 3) := dk_132 2 1 (dk_at dksX4_word_3 5 rfl rfl)
theorem dX4_word_77 : decode cX4_word 77 = .ok (.goto (-42), 3) := dk_167 255 214 (dk_at dksX4_word_3 8 rfl rfl)
theorem dX4_word_80 : decode cX4_word 80 = .ok (.aload_n 0, 1) := dk_42 (dk_at dksX4_word_3 11 rfl rfl)
theorem dX4_word_81 : decode cX4_word 81 = .ok (.getfield 30, 3) := dk_180 0 30 (dk_at dksX4_word_3 12 rfl rfl)
theorem dX4_word_84 : decode cX4_word 84 = .ok (.iload_n 2, 1) := dk_28 (dk_at dksX4_word_3 15 rfl rfl)
theorem dX4_word_85 : decode cX4_word 85 = .ok (.iadd, 1) := dk_96 (dk_at dksX4_word_3 16 rfl rfl)
theorem dX4_word_86 : decode cX4_word 86 = .ok (.aload_n 0, 1) := dk_42 (dk_at dksX4_word_3 17 rfl rfl)
theorem dX4_word_87 : decode cX4_word 87 = .ok (.getfield 15, 3) := dk_180 0 15 (dk_at dksX4_word_3 18 rfl rfl)
theorem dX4_word_90 : decode cX4_word 90 = .ok (.if_icmp .ne 5, 3) := dk_160 0 5 (dk_at dksX4_word_3 21 rfl rfl)
theorem dX4_word_93 : decode cX4_word 93 = .ok (.iload_n 1, 1) := dk_27 (dk_at dksX4_word_4 0 rfl rfl)
theorem dX4_word_94 : decode cX4_word 94 = .ok (.ireturn, 1) := dk_172 (dk_at dksX4_word_4 1 rfl rfl)
theorem dX4_word_95 : decode cX4_word 95 = .ok (.iinc 1 1, 3) := dk_132 1 1 (dk_at dksX4_word_4 2 rfl rfl)
theorem dX4_word_98 : decode cX4_word 98 = .ok (.goto (-96), 3) := dk_167 255 160 (dk_at dksX4_word_4 5 rfl rfl)
theorem dX4_word_101 : decode cX4_word 101 = .ok (.iconst (-1), 1) := dk_2 (dk_at dksX4_word_4 8 rfl rfl)
theorem dX4_word_102 : decode cX4_word 102 = .ok (.ireturn, 1) := dk_172 (dk_at dksX4_word_4 9 rfl rfl)
abbrev cX4_line : ByteArray := prog_8_method_9_code
def yX4_line : MethodName := ⟨RX4, "line", "()V"⟩
def dkwX4_line_11 : List UInt8 := [181, 0, 144, 177]
abbrev dktX4_line_11 : List UInt8 := dkwX4_line_11 ++ []
def dkwX4_line_10 : List UInt8 := [159, 0, 9, 42, 4, 182, 0, 75, 191, 42, 182, 0, 79, 42, 180, 0, 85, 89, 180, 0, 144, 4, 96]
abbrev dktX4_line_10 : List UInt8 := dkwX4_line_10 ++ dktX4_line_11
def dkwX4_line_9 : List UInt8 := [87, 167, 0, 16, 42, 182, 0, 141, 167, 0, 9, 42, 4, 182, 0, 75, 191, 42, 180, 0, 33, 6]
abbrev dktX4_line_9 : List UInt8 := dkwX4_line_9 ++ dktX4_line_10
def dkwX4_line_8 : List UInt8 := [180, 0, 138, 42, 42, 180, 0, 85, 180, 0, 138, 182, 0, 125, 5, 17, 39, 15, 182, 0, 130, 182, 0, 134]
abbrev dktX4_line_8 : List UInt8 := dkwX4_line_8 ++ dktX4_line_9
def dkwX4_line_7 : List UInt8 := [180, 0, 121, 182, 0, 125, 4, 18, 54, 182, 0, 130, 182, 0, 134, 87, 167, 0, 48, 42, 180, 0, 85]
abbrev dktX4_line_7 : List UInt8 := dkwX4_line_7 ++ dktX4_line_8
def dkwX4_line_6 : List UInt8 := [3, 18, 54, 182, 0, 111, 181, 0, 118, 167, 0, 79, 42, 180, 0, 85, 180, 0, 121, 42, 42, 180, 0, 85]
abbrev dktX4_line_6 : List UInt8 := dkwX4_line_6 ++ dktX4_line_7
def dkwX4_line_5 : List UInt8 := [17, 39, 15, 182, 0, 111, 181, 0, 115, 167, 0, 103, 42, 180, 0, 85, 42, 42, 180, 0, 85, 180, 0, 118]
abbrev dktX4_line_5 : List UInt8 := dkwX4_line_5 ++ dktX4_line_6
def dkwX4_line_4 : List UInt8 := [182, 0, 111, 181, 0, 108, 167, 0, 128, 42, 180, 0, 85, 42, 42, 180, 0, 85, 180, 0, 115, 3]
abbrev dktX4_line_4 : List UInt8 := dkwX4_line_4 ++ dktX4_line_5
def dkwX4_line_3 : List UInt8 := [182, 0, 105, 167, 0, 154, 42, 180, 0, 85, 42, 42, 180, 0, 85, 180, 0, 108, 16, 10, 17, 3, 232]
abbrev dktX4_line_3 : List UInt8 := dkwX4_line_3 ++ dktX4_line_4
def dkwX4_line_2 : List UInt8 := [42, 182, 0, 96, 167, 0, 175, 42, 182, 0, 99, 167, 0, 168, 42, 182, 0, 102, 167, 0, 161, 42]
abbrev dktX4_line_2 : List UInt8 := dkwX4_line_2 ++ dktX4_line_3
def dkwX4_line_1 : List UInt8 := [170, 0, 0, 0, 0, 0, 228, 0, 0, 0, 0, 0, 0, 0, 9, 0, 0, 0, 55, 0, 0, 0, 62, 0, 0, 0, 69, 0, 0, 0, 76, 0, 0, 0, 83, 0, 0, 0, 109, 0, 0, 0, 134, 0, 0, 0, 158, 0, 0, 0, 189, 0, 0, 0, 221]
abbrev dktX4_line_1 : List UInt8 := dkwX4_line_1 ++ dktX4_line_2
def dkwX4_line_0 : List UInt8 := [42, 180, 0, 33, 153, 0, 9, 42, 4, 182, 0, 75, 191, 42, 180, 0, 51]
abbrev dktX4_line_0 : List UInt8 := dkwX4_line_0 ++ dktX4_line_1
theorem dksX4_line_0 : cX4_line.data.toList.drop 0 = dktX4_line_0 := by decide +kernel
theorem dksX4_line_1 : cX4_line.data.toList.drop 17 = dktX4_line_1 := dk_seg dksX4_line_0 17 rfl rfl
theorem dksX4_line_2 : cX4_line.data.toList.drop 72 = dktX4_line_2 := dk_seg dksX4_line_1 55 rfl rfl
theorem dksX4_line_3 : cX4_line.data.toList.drop 94 = dktX4_line_3 := dk_seg dksX4_line_2 22 rfl rfl
theorem dksX4_line_4 : cX4_line.data.toList.drop 117 = dktX4_line_4 := dk_seg dksX4_line_3 23 rfl rfl
theorem dksX4_line_5 : cX4_line.data.toList.drop 139 = dktX4_line_5 := dk_seg dksX4_line_4 22 rfl rfl
theorem dksX4_line_6 : cX4_line.data.toList.drop 163 = dktX4_line_6 := dk_seg dksX4_line_5 24 rfl rfl
theorem dksX4_line_7 : cX4_line.data.toList.drop 187 = dktX4_line_7 := dk_seg dksX4_line_6 24 rfl rfl
theorem dksX4_line_8 : cX4_line.data.toList.drop 210 = dktX4_line_8 := dk_seg dksX4_line_7 23 rfl rfl
theorem dksX4_line_9 : cX4_line.data.toList.drop 234 = dktX4_line_9 := dk_seg dksX4_line_8 24 rfl rfl
theorem dksX4_line_10 : cX4_line.data.toList.drop 256 = dktX4_line_10 := dk_seg dksX4_line_9 22 rfl rfl
theorem dksX4_line_11 : cX4_line.data.toList.drop 279 = dktX4_line_11 := dk_seg dksX4_line_10 23 rfl rfl
theorem dX4_line_0 : decode cX4_line 0 = .ok (.aload_n 0, 1) := dk_42 (dk_at dksX4_line_0 0 rfl rfl)
theorem dX4_line_1 : decode cX4_line 1 = .ok (.getfield 33, 3) := dk_180 0 33 (dk_at dksX4_line_0 1 rfl rfl)
theorem dX4_line_4 : decode cX4_line 4 = .ok (.ifCond .eq 9, 3) := dk_153 0 9 (dk_at dksX4_line_0 4 rfl rfl)
theorem dX4_line_7 : decode cX4_line 7 = .ok (.aload_n 0, 1) := dk_42 (dk_at dksX4_line_0 7 rfl rfl)
theorem dX4_line_8 : decode cX4_line 8 = .ok (.iconst 1, 1) := dk_4 (dk_at dksX4_line_0 8 rfl rfl)
theorem dX4_line_9 : decode cX4_line 9 = .ok (.invokevirtual 75, 3) := dk_182 0 75 (dk_at dksX4_line_0 9 rfl rfl)
theorem dX4_line_12 : decode cX4_line 12 = .ok (.athrow, 1) := dk_191 (dk_at dksX4_line_0 12 rfl rfl)
theorem dX4_line_13 : decode cX4_line 13 = .ok (.aload_n 0, 1) := dk_42 (dk_at dksX4_line_0 13 rfl rfl)
theorem dX4_line_14 : decode cX4_line 14 = .ok (.getfield 51, 3) := dk_180 0 51 (dk_at dksX4_line_0 14 rfl rfl)
theorem dX4_line_17 : decode cX4_line 17 = .ok (.tableswitch 228 0 9 #[55, 62, 69, 76, 83, 109, 134, 158, 189, 221], 55) := by decide +kernel
theorem dX4_line_72 : decode cX4_line 72 = .ok (.aload_n 0, 1) := dk_42 (dk_at dksX4_line_2 0 rfl rfl)
theorem dX4_line_73 : decode cX4_line 73 = .ok (.invokevirtual 96, 3) := dk_182 0 96 (dk_at dksX4_line_2 1 rfl rfl)
theorem dX4_line_76 : decode cX4_line 76 = .ok (.goto 175, 3) := dk_167 0 175 (dk_at dksX4_line_2 4 rfl rfl)
theorem dX4_line_79 : decode cX4_line 79 = .ok (.aload_n 0, 1) := dk_42 (dk_at dksX4_line_2 7 rfl rfl)
theorem dX4_line_80 : decode cX4_line 80 = .ok (.invokevirtual 99, 3) := dk_182 0 99 (dk_at dksX4_line_2 8 rfl rfl)
theorem dX4_line_83 : decode cX4_line 83 = .ok (.goto 168, 3) := dk_167 0 168 (dk_at dksX4_line_2 11 rfl rfl)
theorem dX4_line_86 : decode cX4_line 86 = .ok (.aload_n 0, 1) := dk_42 (dk_at dksX4_line_2 14 rfl rfl)
theorem dX4_line_87 : decode cX4_line 87 = .ok (.invokevirtual 102, 3) := dk_182 0 102 (dk_at dksX4_line_2 15 rfl rfl)
theorem dX4_line_90 : decode cX4_line 90 = .ok (.goto 161, 3) := dk_167 0 161 (dk_at dksX4_line_2 18 rfl rfl)
theorem dX4_line_93 : decode cX4_line 93 = .ok (.aload_n 0, 1) := dk_42 (dk_at dksX4_line_2 21 rfl rfl)
theorem dX4_line_94 : decode cX4_line 94 = .ok (.invokevirtual 105, 3) := dk_182 0 105 (dk_at dksX4_line_3 0 rfl rfl)
theorem dX4_line_97 : decode cX4_line 97 = .ok (.goto 154, 3) := dk_167 0 154 (dk_at dksX4_line_3 3 rfl rfl)
theorem dX4_line_100 : decode cX4_line 100 = .ok (.aload_n 0, 1) := dk_42 (dk_at dksX4_line_3 6 rfl rfl)
theorem dX4_line_101 : decode cX4_line 101 = .ok (.getfield 85, 3) := dk_180 0 85 (dk_at dksX4_line_3 7 rfl rfl)
theorem dX4_line_104 : decode cX4_line 104 = .ok (.aload_n 0, 1) := dk_42 (dk_at dksX4_line_3 10 rfl rfl)
theorem dX4_line_105 : decode cX4_line 105 = .ok (.aload_n 0, 1) := dk_42 (dk_at dksX4_line_3 11 rfl rfl)
theorem dX4_line_106 : decode cX4_line 106 = .ok (.getfield 85, 3) := dk_180 0 85 (dk_at dksX4_line_3 12 rfl rfl)
theorem dX4_line_109 : decode cX4_line 109 = .ok (.getfield 108, 3) := dk_180 0 108 (dk_at dksX4_line_3 15 rfl rfl)
theorem dX4_line_112 : decode cX4_line 112 = .ok (.bipush 10, 2) := dk_16 10 (dk_at dksX4_line_3 18 rfl rfl)
theorem dX4_line_114 : decode cX4_line 114 = .ok (.sipush 1000, 3) := dk_17 3 232 (dk_at dksX4_line_3 20 rfl rfl)
theorem dX4_line_117 : decode cX4_line 117 = .ok (.invokevirtual 111, 3) := dk_182 0 111 (dk_at dksX4_line_4 0 rfl rfl)
theorem dX4_line_120 : decode cX4_line 120 = .ok (.putfield 108, 3) := dk_181 0 108 (dk_at dksX4_line_4 3 rfl rfl)
theorem dX4_line_123 : decode cX4_line 123 = .ok (.goto 128, 3) := dk_167 0 128 (dk_at dksX4_line_4 6 rfl rfl)
theorem dX4_line_126 : decode cX4_line 126 = .ok (.aload_n 0, 1) := dk_42 (dk_at dksX4_line_4 9 rfl rfl)
theorem dX4_line_127 : decode cX4_line 127 = .ok (.getfield 85, 3) := dk_180 0 85 (dk_at dksX4_line_4 10 rfl rfl)
theorem dX4_line_130 : decode cX4_line 130 = .ok (.aload_n 0, 1) := dk_42 (dk_at dksX4_line_4 13 rfl rfl)
theorem dX4_line_131 : decode cX4_line 131 = .ok (.aload_n 0, 1) := dk_42 (dk_at dksX4_line_4 14 rfl rfl)
theorem dX4_line_132 : decode cX4_line 132 = .ok (.getfield 85, 3) := dk_180 0 85 (dk_at dksX4_line_4 15 rfl rfl)
theorem dX4_line_135 : decode cX4_line 135 = .ok (.getfield 115, 3) := dk_180 0 115 (dk_at dksX4_line_4 18 rfl rfl)
theorem dX4_line_138 : decode cX4_line 138 = .ok (.iconst 0, 1) := dk_3 (dk_at dksX4_line_4 21 rfl rfl)
theorem dX4_line_139 : decode cX4_line 139 = .ok (.sipush 9999, 3) := dk_17 39 15 (dk_at dksX4_line_5 0 rfl rfl)
theorem dX4_line_142 : decode cX4_line 142 = .ok (.invokevirtual 111, 3) := dk_182 0 111 (dk_at dksX4_line_5 3 rfl rfl)
theorem dX4_line_145 : decode cX4_line 145 = .ok (.putfield 115, 3) := dk_181 0 115 (dk_at dksX4_line_5 6 rfl rfl)
theorem dX4_line_148 : decode cX4_line 148 = .ok (.goto 103, 3) := dk_167 0 103 (dk_at dksX4_line_5 9 rfl rfl)
theorem dX4_line_151 : decode cX4_line 151 = .ok (.aload_n 0, 1) := dk_42 (dk_at dksX4_line_5 12 rfl rfl)
theorem dX4_line_152 : decode cX4_line 152 = .ok (.getfield 85, 3) := dk_180 0 85 (dk_at dksX4_line_5 13 rfl rfl)
theorem dX4_line_155 : decode cX4_line 155 = .ok (.aload_n 0, 1) := dk_42 (dk_at dksX4_line_5 16 rfl rfl)
theorem dX4_line_156 : decode cX4_line 156 = .ok (.aload_n 0, 1) := dk_42 (dk_at dksX4_line_5 17 rfl rfl)
theorem dX4_line_157 : decode cX4_line 157 = .ok (.getfield 85, 3) := dk_180 0 85 (dk_at dksX4_line_5 18 rfl rfl)
theorem dX4_line_160 : decode cX4_line 160 = .ok (.getfield 118, 3) := dk_180 0 118 (dk_at dksX4_line_5 21 rfl rfl)
theorem dX4_line_163 : decode cX4_line 163 = .ok (.iconst 0, 1) := dk_3 (dk_at dksX4_line_6 0 rfl rfl)
theorem dX4_line_164 : decode cX4_line 164 = .ok (.ldc 54, 2) := dk_18 54 (dk_at dksX4_line_6 1 rfl rfl)
theorem dX4_line_166 : decode cX4_line 166 = .ok (.invokevirtual 111, 3) := dk_182 0 111 (dk_at dksX4_line_6 3 rfl rfl)
theorem dX4_line_169 : decode cX4_line 169 = .ok (.putfield 118, 3) := dk_181 0 118 (dk_at dksX4_line_6 6 rfl rfl)
theorem dX4_line_172 : decode cX4_line 172 = .ok (.goto 79, 3) := dk_167 0 79 (dk_at dksX4_line_6 9 rfl rfl)
theorem dX4_line_175 : decode cX4_line 175 = .ok (.aload_n 0, 1) := dk_42 (dk_at dksX4_line_6 12 rfl rfl)
theorem dX4_line_176 : decode cX4_line 176 = .ok (.getfield 85, 3) := dk_180 0 85 (dk_at dksX4_line_6 13 rfl rfl)
theorem dX4_line_179 : decode cX4_line 179 = .ok (.getfield 121, 3) := dk_180 0 121 (dk_at dksX4_line_6 16 rfl rfl)
theorem dX4_line_182 : decode cX4_line 182 = .ok (.aload_n 0, 1) := dk_42 (dk_at dksX4_line_6 19 rfl rfl)
theorem dX4_line_183 : decode cX4_line 183 = .ok (.aload_n 0, 1) := dk_42 (dk_at dksX4_line_6 20 rfl rfl)
theorem dX4_line_184 : decode cX4_line 184 = .ok (.getfield 85, 3) := dk_180 0 85 (dk_at dksX4_line_6 21 rfl rfl)
theorem dX4_line_187 : decode cX4_line 187 = .ok (.getfield 121, 3) := dk_180 0 121 (dk_at dksX4_line_7 0 rfl rfl)
theorem dX4_line_190 : decode cX4_line 190 = .ok (.invokevirtual 125, 3) := dk_182 0 125 (dk_at dksX4_line_7 3 rfl rfl)
theorem dX4_line_193 : decode cX4_line 193 = .ok (.iconst 1, 1) := dk_4 (dk_at dksX4_line_7 6 rfl rfl)
theorem dX4_line_194 : decode cX4_line 194 = .ok (.ldc 54, 2) := dk_18 54 (dk_at dksX4_line_7 7 rfl rfl)
theorem dX4_line_196 : decode cX4_line 196 = .ok (.invokevirtual 130, 3) := dk_182 0 130 (dk_at dksX4_line_7 9 rfl rfl)
theorem dX4_line_199 : decode cX4_line 199 = .ok (.invokevirtual 134, 3) := dk_182 0 134 (dk_at dksX4_line_7 12 rfl rfl)
theorem dX4_line_202 : decode cX4_line 202 = .ok (.pop, 1) := dk_87 (dk_at dksX4_line_7 15 rfl rfl)
theorem dX4_line_203 : decode cX4_line 203 = .ok (.goto 48, 3) := dk_167 0 48 (dk_at dksX4_line_7 16 rfl rfl)
theorem dX4_line_206 : decode cX4_line 206 = .ok (.aload_n 0, 1) := dk_42 (dk_at dksX4_line_7 19 rfl rfl)
theorem dX4_line_207 : decode cX4_line 207 = .ok (.getfield 85, 3) := dk_180 0 85 (dk_at dksX4_line_7 20 rfl rfl)
theorem dX4_line_210 : decode cX4_line 210 = .ok (.getfield 138, 3) := dk_180 0 138 (dk_at dksX4_line_8 0 rfl rfl)
theorem dX4_line_213 : decode cX4_line 213 = .ok (.aload_n 0, 1) := dk_42 (dk_at dksX4_line_8 3 rfl rfl)
theorem dX4_line_214 : decode cX4_line 214 = .ok (.aload_n 0, 1) := dk_42 (dk_at dksX4_line_8 4 rfl rfl)
theorem dX4_line_215 : decode cX4_line 215 = .ok (.getfield 85, 3) := dk_180 0 85 (dk_at dksX4_line_8 5 rfl rfl)
theorem dX4_line_218 : decode cX4_line 218 = .ok (.getfield 138, 3) := dk_180 0 138 (dk_at dksX4_line_8 8 rfl rfl)
theorem dX4_line_221 : decode cX4_line 221 = .ok (.invokevirtual 125, 3) := dk_182 0 125 (dk_at dksX4_line_8 11 rfl rfl)
theorem dX4_line_224 : decode cX4_line 224 = .ok (.iconst 2, 1) := dk_5 (dk_at dksX4_line_8 14 rfl rfl)
theorem dX4_line_225 : decode cX4_line 225 = .ok (.sipush 9999, 3) := dk_17 39 15 (dk_at dksX4_line_8 15 rfl rfl)
theorem dX4_line_228 : decode cX4_line 228 = .ok (.invokevirtual 130, 3) := dk_182 0 130 (dk_at dksX4_line_8 18 rfl rfl)
theorem dX4_line_231 : decode cX4_line 231 = .ok (.invokevirtual 134, 3) := dk_182 0 134 (dk_at dksX4_line_8 21 rfl rfl)
theorem dX4_line_234 : decode cX4_line 234 = .ok (.pop, 1) := dk_87 (dk_at dksX4_line_9 0 rfl rfl)
theorem dX4_line_235 : decode cX4_line 235 = .ok (.goto 16, 3) := dk_167 0 16 (dk_at dksX4_line_9 1 rfl rfl)
theorem dX4_line_238 : decode cX4_line 238 = .ok (.aload_n 0, 1) := dk_42 (dk_at dksX4_line_9 4 rfl rfl)
theorem dX4_line_239 : decode cX4_line 239 = .ok (.invokevirtual 141, 3) := dk_182 0 141 (dk_at dksX4_line_9 5 rfl rfl)
theorem dX4_line_242 : decode cX4_line 242 = .ok (.goto 9, 3) := dk_167 0 9 (dk_at dksX4_line_9 8 rfl rfl)
theorem dX4_line_245 : decode cX4_line 245 = .ok (.aload_n 0, 1) := dk_42 (dk_at dksX4_line_9 11 rfl rfl)
theorem dX4_line_246 : decode cX4_line 246 = .ok (.iconst 1, 1) := dk_4 (dk_at dksX4_line_9 12 rfl rfl)
theorem dX4_line_247 : decode cX4_line 247 = .ok (.invokevirtual 75, 3) := dk_182 0 75 (dk_at dksX4_line_9 13 rfl rfl)
theorem dX4_line_250 : decode cX4_line 250 = .ok (.athrow, 1) := dk_191 (dk_at dksX4_line_9 16 rfl rfl)
theorem dX4_line_251 : decode cX4_line 251 = .ok (.aload_n 0, 1) := dk_42 (dk_at dksX4_line_9 17 rfl rfl)
theorem dX4_line_252 : decode cX4_line 252 = .ok (.getfield 33, 3) := dk_180 0 33 (dk_at dksX4_line_9 18 rfl rfl)
theorem dX4_line_255 : decode cX4_line 255 = .ok (.iconst 3, 1) := dk_6 (dk_at dksX4_line_9 21 rfl rfl)
theorem dX4_line_256 : decode cX4_line 256 = .ok (.if_icmp .eq 9, 3) := dk_159 0 9 (dk_at dksX4_line_10 0 rfl rfl)
theorem dX4_line_259 : decode cX4_line 259 = .ok (.aload_n 0, 1) := dk_42 (dk_at dksX4_line_10 3 rfl rfl)
theorem dX4_line_260 : decode cX4_line 260 = .ok (.iconst 1, 1) := dk_4 (dk_at dksX4_line_10 4 rfl rfl)
theorem dX4_line_261 : decode cX4_line 261 = .ok (.invokevirtual 75, 3) := dk_182 0 75 (dk_at dksX4_line_10 5 rfl rfl)
theorem dX4_line_264 : decode cX4_line 264 = .ok (.athrow, 1) := dk_191 (dk_at dksX4_line_10 8 rfl rfl)
theorem dX4_line_265 : decode cX4_line 265 = .ok (.aload_n 0, 1) := dk_42 (dk_at dksX4_line_10 9 rfl rfl)
theorem dX4_line_266 : decode cX4_line 266 = .ok (.invokevirtual 79, 3) := dk_182 0 79 (dk_at dksX4_line_10 10 rfl rfl)
theorem dX4_line_269 : decode cX4_line 269 = .ok (.aload_n 0, 1) := dk_42 (dk_at dksX4_line_10 13 rfl rfl)
theorem dX4_line_270 : decode cX4_line 270 = .ok (.getfield 85, 3) := dk_180 0 85 (dk_at dksX4_line_10 14 rfl rfl)
theorem dX4_line_273 : decode cX4_line 273 = .ok (.dup, 1) := dk_89 (dk_at dksX4_line_10 17 rfl rfl)
theorem dX4_line_274 : decode cX4_line 274 = .ok (.getfield 144, 3) := dk_180 0 144 (dk_at dksX4_line_10 18 rfl rfl)
theorem dX4_line_277 : decode cX4_line 277 = .ok (.iconst 1, 1) := dk_4 (dk_at dksX4_line_10 21 rfl rfl)
theorem dX4_line_278 : decode cX4_line 278 = .ok (.iadd, 1) := dk_96 (dk_at dksX4_line_10 22 rfl rfl)
theorem dX4_line_279 : decode cX4_line 279 = .ok (.putfield 144, 3) := dk_181 0 144 (dk_at dksX4_line_11 0 rfl rfl)
theorem dX4_line_282 : decode cX4_line 282 = .ok (.return_, 1) := dk_177 (dk_at dksX4_line_11 3 rfl rfl)
abbrev cX4_wrong : ByteArray := prog_8_method_6_code
def yX4_wrong : MethodName := ⟨RX4, "wrong", "(I)LExemptDesk$Wrong;"⟩
def dkwX4_wrong_0 : List UInt8 := [187, 0, 70, 89, 27, 42, 180, 0, 30, 183, 0, 72, 176]
abbrev dktX4_wrong_0 : List UInt8 := dkwX4_wrong_0 ++ []
theorem dksX4_wrong_0 : cX4_wrong.data.toList.drop 0 = dktX4_wrong_0 := by decide +kernel
theorem dX4_wrong_0 : decode cX4_wrong 0 = .ok (.new 70, 3) := dk_187 0 70 (dk_at dksX4_wrong_0 0 rfl rfl)
theorem dX4_wrong_3 : decode cX4_wrong 3 = .ok (.dup, 1) := dk_89 (dk_at dksX4_wrong_0 3 rfl rfl)
theorem dX4_wrong_4 : decode cX4_wrong 4 = .ok (.iload_n 1, 1) := dk_27 (dk_at dksX4_wrong_0 4 rfl rfl)
theorem dX4_wrong_5 : decode cX4_wrong 5 = .ok (.aload_n 0, 1) := dk_42 (dk_at dksX4_wrong_0 5 rfl rfl)
theorem dX4_wrong_6 : decode cX4_wrong 6 = .ok (.getfield 30, 3) := dk_180 0 30 (dk_at dksX4_wrong_0 6 rfl rfl)
theorem dX4_wrong_9 : decode cX4_wrong 9 = .ok (.invokespecial 72, 3) := dk_183 0 72 (dk_at dksX4_wrong_0 9 rfl rfl)
theorem dX4_wrong_12 : decode cX4_wrong 12 = .ok (.areturn, 1) := dk_176 (dk_at dksX4_wrong_0 12 rfl rfl)
abbrev cX4_newTrader : ByteArray := prog_8_method_12_code
def yX4_newTrader : MethodName := ⟨RX4, "newTrader", "()V"⟩
def dkwX4_newTrader_2 : List UInt8 := [182, 0, 158, 2, 159, 0, 7, 4, 167, 0, 4, 3, 182, 0, 162, 177]
abbrev dktX4_newTrader_2 : List UInt8 := dkwX4_newTrader_2 ++ []
def dkwX4_newTrader_1 : List UInt8 := [180, 0, 33, 4, 159, 0, 9, 42, 4, 182, 0, 75, 191, 42, 42, 180, 0, 85, 42, 180, 0, 51]
abbrev dktX4_newTrader_1 : List UInt8 := dkwX4_newTrader_1 ++ dktX4_newTrader_2
def dkwX4_newTrader_0 : List UInt8 := [42, 180, 0, 85, 182, 0, 155, 7, 160, 0, 9, 42, 5, 182, 0, 75, 191, 42, 182, 0, 79, 42]
abbrev dktX4_newTrader_0 : List UInt8 := dkwX4_newTrader_0 ++ dktX4_newTrader_1
theorem dksX4_newTrader_0 : cX4_newTrader.data.toList.drop 0 = dktX4_newTrader_0 := by decide +kernel
theorem dksX4_newTrader_1 : cX4_newTrader.data.toList.drop 22 = dktX4_newTrader_1 := dk_seg dksX4_newTrader_0 22 rfl rfl
theorem dksX4_newTrader_2 : cX4_newTrader.data.toList.drop 44 = dktX4_newTrader_2 := dk_seg dksX4_newTrader_1 22 rfl rfl
theorem dX4_newTrader_0 : decode cX4_newTrader 0 = .ok (.aload_n 0, 1) := dk_42 (dk_at dksX4_newTrader_0 0 rfl rfl)
theorem dX4_newTrader_1 : decode cX4_newTrader 1 = .ok (.getfield 85, 3) := dk_180 0 85 (dk_at dksX4_newTrader_0 1 rfl rfl)
theorem dX4_newTrader_4 : decode cX4_newTrader 4 = .ok (.invokevirtual 155, 3) := dk_182 0 155 (dk_at dksX4_newTrader_0 4 rfl rfl)
theorem dX4_newTrader_7 : decode cX4_newTrader 7 = .ok (.iconst 4, 1) := dk_7 (dk_at dksX4_newTrader_0 7 rfl rfl)
theorem dX4_newTrader_8 : decode cX4_newTrader 8 = .ok (.if_icmp .ne 9, 3) := dk_160 0 9 (dk_at dksX4_newTrader_0 8 rfl rfl)
theorem dX4_newTrader_11 : decode cX4_newTrader 11 = .ok (.aload_n 0, 1) := dk_42 (dk_at dksX4_newTrader_0 11 rfl rfl)
theorem dX4_newTrader_12 : decode cX4_newTrader 12 = .ok (.iconst 2, 1) := dk_5 (dk_at dksX4_newTrader_0 12 rfl rfl)
theorem dX4_newTrader_13 : decode cX4_newTrader 13 = .ok (.invokevirtual 75, 3) := dk_182 0 75 (dk_at dksX4_newTrader_0 13 rfl rfl)
theorem dX4_newTrader_16 : decode cX4_newTrader 16 = .ok (.athrow, 1) := dk_191 (dk_at dksX4_newTrader_0 16 rfl rfl)
theorem dX4_newTrader_17 : decode cX4_newTrader 17 = .ok (.aload_n 0, 1) := dk_42 (dk_at dksX4_newTrader_0 17 rfl rfl)
theorem dX4_newTrader_18 : decode cX4_newTrader 18 = .ok (.invokevirtual 79, 3) := dk_182 0 79 (dk_at dksX4_newTrader_0 18 rfl rfl)
theorem dX4_newTrader_21 : decode cX4_newTrader 21 = .ok (.aload_n 0, 1) := dk_42 (dk_at dksX4_newTrader_0 21 rfl rfl)
theorem dX4_newTrader_22 : decode cX4_newTrader 22 = .ok (.getfield 33, 3) := dk_180 0 33 (dk_at dksX4_newTrader_1 0 rfl rfl)
theorem dX4_newTrader_25 : decode cX4_newTrader 25 = .ok (.iconst 1, 1) := dk_4 (dk_at dksX4_newTrader_1 3 rfl rfl)
theorem dX4_newTrader_26 : decode cX4_newTrader 26 = .ok (.if_icmp .eq 9, 3) := dk_159 0 9 (dk_at dksX4_newTrader_1 4 rfl rfl)
theorem dX4_newTrader_29 : decode cX4_newTrader 29 = .ok (.aload_n 0, 1) := dk_42 (dk_at dksX4_newTrader_1 7 rfl rfl)
theorem dX4_newTrader_30 : decode cX4_newTrader 30 = .ok (.iconst 1, 1) := dk_4 (dk_at dksX4_newTrader_1 8 rfl rfl)
theorem dX4_newTrader_31 : decode cX4_newTrader 31 = .ok (.invokevirtual 75, 3) := dk_182 0 75 (dk_at dksX4_newTrader_1 9 rfl rfl)
theorem dX4_newTrader_34 : decode cX4_newTrader 34 = .ok (.athrow, 1) := dk_191 (dk_at dksX4_newTrader_1 12 rfl rfl)
theorem dX4_newTrader_35 : decode cX4_newTrader 35 = .ok (.aload_n 0, 1) := dk_42 (dk_at dksX4_newTrader_1 13 rfl rfl)
theorem dX4_newTrader_36 : decode cX4_newTrader 36 = .ok (.aload_n 0, 1) := dk_42 (dk_at dksX4_newTrader_1 14 rfl rfl)
theorem dX4_newTrader_37 : decode cX4_newTrader 37 = .ok (.getfield 85, 3) := dk_180 0 85 (dk_at dksX4_newTrader_1 15 rfl rfl)
theorem dX4_newTrader_40 : decode cX4_newTrader 40 = .ok (.aload_n 0, 1) := dk_42 (dk_at dksX4_newTrader_1 18 rfl rfl)
theorem dX4_newTrader_41 : decode cX4_newTrader 41 = .ok (.getfield 51, 3) := dk_180 0 51 (dk_at dksX4_newTrader_1 19 rfl rfl)
theorem dX4_newTrader_44 : decode cX4_newTrader 44 = .ok (.invokevirtual 158, 3) := dk_182 0 158 (dk_at dksX4_newTrader_2 0 rfl rfl)
theorem dX4_newTrader_47 : decode cX4_newTrader 47 = .ok (.iconst (-1), 1) := dk_2 (dk_at dksX4_newTrader_2 3 rfl rfl)
theorem dX4_newTrader_48 : decode cX4_newTrader 48 = .ok (.if_icmp .eq 7, 3) := dk_159 0 7 (dk_at dksX4_newTrader_2 4 rfl rfl)
theorem dX4_newTrader_51 : decode cX4_newTrader 51 = .ok (.iconst 1, 1) := dk_4 (dk_at dksX4_newTrader_2 7 rfl rfl)
theorem dX4_newTrader_52 : decode cX4_newTrader 52 = .ok (.goto 4, 3) := dk_167 0 4 (dk_at dksX4_newTrader_2 8 rfl rfl)
theorem dX4_newTrader_55 : decode cX4_newTrader 55 = .ok (.iconst 0, 1) := dk_3 (dk_at dksX4_newTrader_2 11 rfl rfl)
theorem dX4_newTrader_56 : decode cX4_newTrader 56 = .ok (.invokevirtual 162, 3) := dk_182 0 162 (dk_at dksX4_newTrader_2 12 rfl rfl)
theorem dX4_newTrader_59 : decode cX4_newTrader 59 = .ok (.return_, 1) := dk_177 (dk_at dksX4_newTrader_2 15 rfl rfl)
abbrev cX4_goesOnAs : ByteArray := prog_8_method_13_code
def yX4_goesOnAs : MethodName := ⟨RX4, "goesOnAs", "(Z)V"⟩
def dkwX4_goesOnAs_1 : List UInt8 := [187, 0, 168, 89, 28, 29, 42, 3, 4, 182, 0, 151, 183, 0, 170, 182, 0, 134, 87, 177]
abbrev dktX4_goesOnAs_1 : List UInt8 := dkwX4_goesOnAs_1 ++ []
def dkwX4_goesOnAs_0 : List UInt8 := [42, 180, 0, 51, 61, 42, 27, 182, 0, 147, 42, 3, 5, 182, 0, 151, 62, 42, 180, 0, 85, 180, 0, 165]
abbrev dktX4_goesOnAs_0 : List UInt8 := dkwX4_goesOnAs_0 ++ dktX4_goesOnAs_1
theorem dksX4_goesOnAs_0 : cX4_goesOnAs.data.toList.drop 0 = dktX4_goesOnAs_0 := by decide +kernel
theorem dksX4_goesOnAs_1 : cX4_goesOnAs.data.toList.drop 24 = dktX4_goesOnAs_1 := dk_seg dksX4_goesOnAs_0 24 rfl rfl
theorem dX4_goesOnAs_0 : decode cX4_goesOnAs 0 = .ok (.aload_n 0, 1) := dk_42 (dk_at dksX4_goesOnAs_0 0 rfl rfl)
theorem dX4_goesOnAs_1 : decode cX4_goesOnAs 1 = .ok (.getfield 51, 3) := dk_180 0 51 (dk_at dksX4_goesOnAs_0 1 rfl rfl)
theorem dX4_goesOnAs_4 : decode cX4_goesOnAs 4 = .ok (.istore_n 2, 1) := dk_61 (dk_at dksX4_goesOnAs_0 4 rfl rfl)
theorem dX4_goesOnAs_5 : decode cX4_goesOnAs 5 = .ok (.aload_n 0, 1) := dk_42 (dk_at dksX4_goesOnAs_0 5 rfl rfl)
theorem dX4_goesOnAs_6 : decode cX4_goesOnAs 6 = .ok (.iload_n 1, 1) := dk_27 (dk_at dksX4_goesOnAs_0 6 rfl rfl)
theorem dX4_goesOnAs_7 : decode cX4_goesOnAs 7 = .ok (.invokevirtual 147, 3) := dk_182 0 147 (dk_at dksX4_goesOnAs_0 7 rfl rfl)
theorem dX4_goesOnAs_10 : decode cX4_goesOnAs 10 = .ok (.aload_n 0, 1) := dk_42 (dk_at dksX4_goesOnAs_0 10 rfl rfl)
theorem dX4_goesOnAs_11 : decode cX4_goesOnAs 11 = .ok (.iconst 0, 1) := dk_3 (dk_at dksX4_goesOnAs_0 11 rfl rfl)
theorem dX4_goesOnAs_12 : decode cX4_goesOnAs 12 = .ok (.iconst 2, 1) := dk_5 (dk_at dksX4_goesOnAs_0 12 rfl rfl)
theorem dX4_goesOnAs_13 : decode cX4_goesOnAs 13 = .ok (.invokevirtual 151, 3) := dk_182 0 151 (dk_at dksX4_goesOnAs_0 13 rfl rfl)
theorem dX4_goesOnAs_16 : decode cX4_goesOnAs 16 = .ok (.istore_n 3, 1) := dk_62 (dk_at dksX4_goesOnAs_0 16 rfl rfl)
theorem dX4_goesOnAs_17 : decode cX4_goesOnAs 17 = .ok (.aload_n 0, 1) := dk_42 (dk_at dksX4_goesOnAs_0 17 rfl rfl)
theorem dX4_goesOnAs_18 : decode cX4_goesOnAs 18 = .ok (.getfield 85, 3) := dk_180 0 85 (dk_at dksX4_goesOnAs_0 18 rfl rfl)
theorem dX4_goesOnAs_21 : decode cX4_goesOnAs 21 = .ok (.getfield 165, 3) := dk_180 0 165 (dk_at dksX4_goesOnAs_0 21 rfl rfl)
theorem dX4_goesOnAs_24 : decode cX4_goesOnAs 24 = .ok (.new 168, 3) := dk_187 0 168 (dk_at dksX4_goesOnAs_1 0 rfl rfl)
theorem dX4_goesOnAs_27 : decode cX4_goesOnAs 27 = .ok (.dup, 1) := dk_89 (dk_at dksX4_goesOnAs_1 3 rfl rfl)
theorem dX4_goesOnAs_28 : decode cX4_goesOnAs 28 = .ok (.iload_n 2, 1) := dk_28 (dk_at dksX4_goesOnAs_1 4 rfl rfl)
theorem dX4_goesOnAs_29 : decode cX4_goesOnAs 29 = .ok (.iload_n 3, 1) := dk_29 (dk_at dksX4_goesOnAs_1 5 rfl rfl)
theorem dX4_goesOnAs_30 : decode cX4_goesOnAs 30 = .ok (.aload_n 0, 1) := dk_42 (dk_at dksX4_goesOnAs_1 6 rfl rfl)
theorem dX4_goesOnAs_31 : decode cX4_goesOnAs 31 = .ok (.iconst 0, 1) := dk_3 (dk_at dksX4_goesOnAs_1 7 rfl rfl)
theorem dX4_goesOnAs_32 : decode cX4_goesOnAs 32 = .ok (.iconst 1, 1) := dk_4 (dk_at dksX4_goesOnAs_1 8 rfl rfl)
theorem dX4_goesOnAs_33 : decode cX4_goesOnAs 33 = .ok (.invokevirtual 151, 3) := dk_182 0 151 (dk_at dksX4_goesOnAs_1 9 rfl rfl)
theorem dX4_goesOnAs_36 : decode cX4_goesOnAs 36 = .ok (.invokespecial 170, 3) := dk_183 0 170 (dk_at dksX4_goesOnAs_1 12 rfl rfl)
theorem dX4_goesOnAs_39 : decode cX4_goesOnAs 39 = .ok (.invokevirtual 134, 3) := dk_182 0 134 (dk_at dksX4_goesOnAs_1 15 rfl rfl)
theorem dX4_goesOnAs_42 : decode cX4_goesOnAs 42 = .ok (.pop, 1) := dk_87 (dk_at dksX4_goesOnAs_1 18 rfl rfl)
theorem dX4_goesOnAs_43 : decode cX4_goesOnAs 43 = .ok (.return_, 1) := dk_177 (dk_at dksX4_goesOnAs_1 19 rfl rfl)
abbrev cX4_goesOn : ByteArray := prog_8_method_11_code
def yX4_goesOn : MethodName := ⟨RX4, "goesOn", "(Z)V"⟩
def dkwX4_goesOn_0 : List UInt8 := [27, 153, 0, 9, 42, 6, 182, 0, 75, 191, 42, 182, 0, 79, 177]
abbrev dktX4_goesOn_0 : List UInt8 := dkwX4_goesOn_0 ++ []
theorem dksX4_goesOn_0 : cX4_goesOn.data.toList.drop 0 = dktX4_goesOn_0 := by decide +kernel
theorem dX4_goesOn_0 : decode cX4_goesOn 0 = .ok (.iload_n 1, 1) := dk_27 (dk_at dksX4_goesOn_0 0 rfl rfl)
theorem dX4_goesOn_1 : decode cX4_goesOn 1 = .ok (.ifCond .eq 9, 3) := dk_153 0 9 (dk_at dksX4_goesOn_0 1 rfl rfl)
theorem dX4_goesOn_4 : decode cX4_goesOn 4 = .ok (.aload_n 0, 1) := dk_42 (dk_at dksX4_goesOn_0 4 rfl rfl)
theorem dX4_goesOn_5 : decode cX4_goesOn 5 = .ok (.iconst 3, 1) := dk_6 (dk_at dksX4_goesOn_0 5 rfl rfl)
theorem dX4_goesOn_6 : decode cX4_goesOn 6 = .ok (.invokevirtual 75, 3) := dk_182 0 75 (dk_at dksX4_goesOn_0 6 rfl rfl)
theorem dX4_goesOn_9 : decode cX4_goesOn 9 = .ok (.athrow, 1) := dk_191 (dk_at dksX4_goesOn_0 9 rfl rfl)
theorem dX4_goesOn_10 : decode cX4_goesOn 10 = .ok (.aload_n 0, 1) := dk_42 (dk_at dksX4_goesOn_0 10 rfl rfl)
theorem dX4_goesOn_11 : decode cX4_goesOn 11 = .ok (.invokevirtual 79, 3) := dk_182 0 79 (dk_at dksX4_goesOn_0 11 rfl rfl)
theorem dX4_goesOn_14 : decode cX4_goesOn 14 = .ok (.return_, 1) := dk_177 (dk_at dksX4_goesOn_0 14 rfl rfl)
abbrev cX4_number : ByteArray := prog_8_method_7_code
def yX4_number : MethodName := ⟨RX4, "number", "(II)I"⟩
def dkwX4_number_1 : List UInt8 := [184, 0, 40, 154, 0, 9, 42, 5, 182, 0, 75, 191, 42, 180, 0, 51, 62, 42, 182, 0, 79, 29, 172]
abbrev dktX4_number_1 : List UInt8 := dkwX4_number_1 ++ []
def dkwX4_number_0 : List UInt8 := [42, 180, 0, 33, 5, 159, 0, 9, 42, 4, 182, 0, 75, 191, 42, 180, 0, 51, 133, 27, 133, 28, 133]
abbrev dktX4_number_0 : List UInt8 := dkwX4_number_0 ++ dktX4_number_1
theorem dksX4_number_0 : cX4_number.data.toList.drop 0 = dktX4_number_0 := by decide +kernel
theorem dksX4_number_1 : cX4_number.data.toList.drop 23 = dktX4_number_1 := dk_seg dksX4_number_0 23 rfl rfl
theorem dX4_number_0 : decode cX4_number 0 = .ok (.aload_n 0, 1) := dk_42 (dk_at dksX4_number_0 0 rfl rfl)
theorem dX4_number_1 : decode cX4_number 1 = .ok (.getfield 33, 3) := dk_180 0 33 (dk_at dksX4_number_0 1 rfl rfl)
theorem dX4_number_4 : decode cX4_number 4 = .ok (.iconst 2, 1) := dk_5 (dk_at dksX4_number_0 4 rfl rfl)
theorem dX4_number_5 : decode cX4_number 5 = .ok (.if_icmp .eq 9, 3) := dk_159 0 9 (dk_at dksX4_number_0 5 rfl rfl)
theorem dX4_number_8 : decode cX4_number 8 = .ok (.aload_n 0, 1) := dk_42 (dk_at dksX4_number_0 8 rfl rfl)
theorem dX4_number_9 : decode cX4_number 9 = .ok (.iconst 1, 1) := dk_4 (dk_at dksX4_number_0 9 rfl rfl)
theorem dX4_number_10 : decode cX4_number 10 = .ok (.invokevirtual 75, 3) := dk_182 0 75 (dk_at dksX4_number_0 10 rfl rfl)
theorem dX4_number_13 : decode cX4_number 13 = .ok (.athrow, 1) := dk_191 (dk_at dksX4_number_0 13 rfl rfl)
theorem dX4_number_14 : decode cX4_number 14 = .ok (.aload_n 0, 1) := dk_42 (dk_at dksX4_number_0 14 rfl rfl)
theorem dX4_number_15 : decode cX4_number 15 = .ok (.getfield 51, 3) := dk_180 0 51 (dk_at dksX4_number_0 15 rfl rfl)
theorem dX4_number_18 : decode cX4_number 18 = .ok (.i2l, 1) := dk_133 (dk_at dksX4_number_0 18 rfl rfl)
theorem dX4_number_19 : decode cX4_number 19 = .ok (.iload_n 1, 1) := dk_27 (dk_at dksX4_number_0 19 rfl rfl)
theorem dX4_number_20 : decode cX4_number 20 = .ok (.i2l, 1) := dk_133 (dk_at dksX4_number_0 20 rfl rfl)
theorem dX4_number_21 : decode cX4_number 21 = .ok (.iload_n 2, 1) := dk_28 (dk_at dksX4_number_0 21 rfl rfl)
theorem dX4_number_22 : decode cX4_number 22 = .ok (.i2l, 1) := dk_133 (dk_at dksX4_number_0 22 rfl rfl)
theorem dX4_number_23 : decode cX4_number 23 = .ok (.invokestatic 40, 3) := dk_184 0 40 (dk_at dksX4_number_1 0 rfl rfl)
theorem dX4_number_26 : decode cX4_number 26 = .ok (.ifCond .ne 9, 3) := dk_154 0 9 (dk_at dksX4_number_1 3 rfl rfl)
theorem dX4_number_29 : decode cX4_number 29 = .ok (.aload_n 0, 1) := dk_42 (dk_at dksX4_number_1 6 rfl rfl)
theorem dX4_number_30 : decode cX4_number 30 = .ok (.iconst 2, 1) := dk_5 (dk_at dksX4_number_1 7 rfl rfl)
theorem dX4_number_31 : decode cX4_number 31 = .ok (.invokevirtual 75, 3) := dk_182 0 75 (dk_at dksX4_number_1 8 rfl rfl)
theorem dX4_number_34 : decode cX4_number 34 = .ok (.athrow, 1) := dk_191 (dk_at dksX4_number_1 11 rfl rfl)
theorem dX4_number_35 : decode cX4_number 35 = .ok (.aload_n 0, 1) := dk_42 (dk_at dksX4_number_1 12 rfl rfl)
theorem dX4_number_36 : decode cX4_number 36 = .ok (.getfield 51, 3) := dk_180 0 51 (dk_at dksX4_number_1 13 rfl rfl)
theorem dX4_number_39 : decode cX4_number 39 = .ok (.istore_n 3, 1) := dk_62 (dk_at dksX4_number_1 16 rfl rfl)
theorem dX4_number_40 : decode cX4_number 40 = .ok (.aload_n 0, 1) := dk_42 (dk_at dksX4_number_1 17 rfl rfl)
theorem dX4_number_41 : decode cX4_number 41 = .ok (.invokevirtual 79, 3) := dk_182 0 79 (dk_at dksX4_number_1 18 rfl rfl)
theorem dX4_number_44 : decode cX4_number 44 = .ok (.iload_n 3, 1) := dk_29 (dk_at dksX4_number_1 21 rfl rfl)
theorem dX4_number_45 : decode cX4_number 45 = .ok (.ireturn, 1) := dk_172 (dk_at dksX4_number_1 22 rfl rfl)
abbrev cX4_head : ByteArray := prog_8_method_15_code
def yX4_head : MethodName := ⟨RX4, "head", "()V"⟩
def dkwX4_head_2 : List UInt8 := [182, 0, 151, 181, 0, 183, 43, 28, 181, 0, 180, 177]
abbrev dktX4_head_2 : List UInt8 := dkwX4_head_2 ++ []
def dkwX4_head_1 : List UInt8 := [167, 0, 4, 3, 182, 0, 147, 42, 3, 17, 3, 231, 182, 0, 151, 61, 43, 42, 28, 17, 3, 231]
abbrev dktX4_head_1 : List UInt8 := dkwX4_head_1 ++ dktX4_head_2
def dkwX4_head_0 : List UInt8 := [42, 180, 0, 85, 42, 182, 0, 173, 182, 0, 176, 76, 42, 43, 180, 0, 180, 2, 159, 0, 7, 4]
abbrev dktX4_head_0 : List UInt8 := dkwX4_head_0 ++ dktX4_head_1
theorem dksX4_head_0 : cX4_head.data.toList.drop 0 = dktX4_head_0 := by decide +kernel
theorem dksX4_head_1 : cX4_head.data.toList.drop 22 = dktX4_head_1 := dk_seg dksX4_head_0 22 rfl rfl
theorem dksX4_head_2 : cX4_head.data.toList.drop 44 = dktX4_head_2 := dk_seg dksX4_head_1 22 rfl rfl
theorem dX4_head_0 : decode cX4_head 0 = .ok (.aload_n 0, 1) := dk_42 (dk_at dksX4_head_0 0 rfl rfl)
theorem dX4_head_1 : decode cX4_head 1 = .ok (.getfield 85, 3) := dk_180 0 85 (dk_at dksX4_head_0 1 rfl rfl)
theorem dX4_head_4 : decode cX4_head 4 = .ok (.aload_n 0, 1) := dk_42 (dk_at dksX4_head_0 4 rfl rfl)
theorem dX4_head_5 : decode cX4_head 5 = .ok (.invokevirtual 173, 3) := dk_182 0 173 (dk_at dksX4_head_0 5 rfl rfl)
theorem dX4_head_8 : decode cX4_head 8 = .ok (.invokevirtual 176, 3) := dk_182 0 176 (dk_at dksX4_head_0 8 rfl rfl)
theorem dX4_head_11 : decode cX4_head 11 = .ok (.astore_n 1, 1) := dk_76 (dk_at dksX4_head_0 11 rfl rfl)
theorem dX4_head_12 : decode cX4_head 12 = .ok (.aload_n 0, 1) := dk_42 (dk_at dksX4_head_0 12 rfl rfl)
theorem dX4_head_13 : decode cX4_head 13 = .ok (.aload_n 1, 1) := dk_43 (dk_at dksX4_head_0 13 rfl rfl)
theorem dX4_head_14 : decode cX4_head 14 = .ok (.getfield 180, 3) := dk_180 0 180 (dk_at dksX4_head_0 14 rfl rfl)
theorem dX4_head_17 : decode cX4_head 17 = .ok (.iconst (-1), 1) := dk_2 (dk_at dksX4_head_0 17 rfl rfl)
theorem dX4_head_18 : decode cX4_head 18 = .ok (.if_icmp .eq 7, 3) := dk_159 0 7 (dk_at dksX4_head_0 18 rfl rfl)
theorem dX4_head_21 : decode cX4_head 21 = .ok (.iconst 1, 1) := dk_4 (dk_at dksX4_head_0 21 rfl rfl)
theorem dX4_head_22 : decode cX4_head 22 = .ok (.goto 4, 3) := dk_167 0 4 (dk_at dksX4_head_1 0 rfl rfl)
theorem dX4_head_25 : decode cX4_head 25 = .ok (.iconst 0, 1) := dk_3 (dk_at dksX4_head_1 3 rfl rfl)
theorem dX4_head_26 : decode cX4_head 26 = .ok (.invokevirtual 147, 3) := dk_182 0 147 (dk_at dksX4_head_1 4 rfl rfl)
theorem dX4_head_29 : decode cX4_head 29 = .ok (.aload_n 0, 1) := dk_42 (dk_at dksX4_head_1 7 rfl rfl)
theorem dX4_head_30 : decode cX4_head 30 = .ok (.iconst 0, 1) := dk_3 (dk_at dksX4_head_1 8 rfl rfl)
theorem dX4_head_31 : decode cX4_head 31 = .ok (.sipush 999, 3) := dk_17 3 231 (dk_at dksX4_head_1 9 rfl rfl)
theorem dX4_head_34 : decode cX4_head 34 = .ok (.invokevirtual 151, 3) := dk_182 0 151 (dk_at dksX4_head_1 12 rfl rfl)
theorem dX4_head_37 : decode cX4_head 37 = .ok (.istore_n 2, 1) := dk_61 (dk_at dksX4_head_1 15 rfl rfl)
theorem dX4_head_38 : decode cX4_head 38 = .ok (.aload_n 1, 1) := dk_43 (dk_at dksX4_head_1 16 rfl rfl)
theorem dX4_head_39 : decode cX4_head 39 = .ok (.aload_n 0, 1) := dk_42 (dk_at dksX4_head_1 17 rfl rfl)
theorem dX4_head_40 : decode cX4_head 40 = .ok (.iload_n 2, 1) := dk_28 (dk_at dksX4_head_1 18 rfl rfl)
theorem dX4_head_41 : decode cX4_head 41 = .ok (.sipush 999, 3) := dk_17 3 231 (dk_at dksX4_head_1 19 rfl rfl)
theorem dX4_head_44 : decode cX4_head 44 = .ok (.invokevirtual 151, 3) := dk_182 0 151 (dk_at dksX4_head_2 0 rfl rfl)
theorem dX4_head_47 : decode cX4_head 47 = .ok (.putfield 183, 3) := dk_181 0 183 (dk_at dksX4_head_2 3 rfl rfl)
theorem dX4_head_50 : decode cX4_head 50 = .ok (.aload_n 1, 1) := dk_43 (dk_at dksX4_head_2 6 rfl rfl)
theorem dX4_head_51 : decode cX4_head 51 = .ok (.iload_n 2, 1) := dk_28 (dk_at dksX4_head_2 7 rfl rfl)
theorem dX4_head_52 : decode cX4_head 52 = .ok (.putfield 180, 3) := dk_181 0 180 (dk_at dksX4_head_2 8 rfl rfl)
theorem dX4_head_55 : decode cX4_head 55 = .ok (.return_, 1) := dk_177 (dk_at dksX4_head_2 11 rfl rfl)
abbrev cX4_atHand : ByteArray := prog_8_method_14_code
def yX4_atHand : MethodName := ⟨RX4, "atHand", "()I"⟩
def dkwX4_atHand_1 : List UInt8 := [180, 0, 51, 182, 0, 158, 60, 27, 2, 160, 0, 9, 42, 7, 182, 0, 75, 191, 27, 172]
abbrev dktX4_atHand_1 : List UInt8 := dkwX4_atHand_1 ++ []
def dkwX4_atHand_0 : List UInt8 := [42, 182, 0, 79, 42, 180, 0, 33, 4, 159, 0, 9, 42, 4, 182, 0, 75, 191, 42, 180, 0, 85, 42]
abbrev dktX4_atHand_0 : List UInt8 := dkwX4_atHand_0 ++ dktX4_atHand_1
theorem dksX4_atHand_0 : cX4_atHand.data.toList.drop 0 = dktX4_atHand_0 := by decide +kernel
theorem dksX4_atHand_1 : cX4_atHand.data.toList.drop 23 = dktX4_atHand_1 := dk_seg dksX4_atHand_0 23 rfl rfl
theorem dX4_atHand_0 : decode cX4_atHand 0 = .ok (.aload_n 0, 1) := dk_42 (dk_at dksX4_atHand_0 0 rfl rfl)
theorem dX4_atHand_1 : decode cX4_atHand 1 = .ok (.invokevirtual 79, 3) := dk_182 0 79 (dk_at dksX4_atHand_0 1 rfl rfl)
theorem dX4_atHand_4 : decode cX4_atHand 4 = .ok (.aload_n 0, 1) := dk_42 (dk_at dksX4_atHand_0 4 rfl rfl)
theorem dX4_atHand_5 : decode cX4_atHand 5 = .ok (.getfield 33, 3) := dk_180 0 33 (dk_at dksX4_atHand_0 5 rfl rfl)
theorem dX4_atHand_8 : decode cX4_atHand 8 = .ok (.iconst 1, 1) := dk_4 (dk_at dksX4_atHand_0 8 rfl rfl)
theorem dX4_atHand_9 : decode cX4_atHand 9 = .ok (.if_icmp .eq 9, 3) := dk_159 0 9 (dk_at dksX4_atHand_0 9 rfl rfl)
theorem dX4_atHand_12 : decode cX4_atHand 12 = .ok (.aload_n 0, 1) := dk_42 (dk_at dksX4_atHand_0 12 rfl rfl)
theorem dX4_atHand_13 : decode cX4_atHand 13 = .ok (.iconst 1, 1) := dk_4 (dk_at dksX4_atHand_0 13 rfl rfl)
theorem dX4_atHand_14 : decode cX4_atHand 14 = .ok (.invokevirtual 75, 3) := dk_182 0 75 (dk_at dksX4_atHand_0 14 rfl rfl)
theorem dX4_atHand_17 : decode cX4_atHand 17 = .ok (.athrow, 1) := dk_191 (dk_at dksX4_atHand_0 17 rfl rfl)
theorem dX4_atHand_18 : decode cX4_atHand 18 = .ok (.aload_n 0, 1) := dk_42 (dk_at dksX4_atHand_0 18 rfl rfl)
theorem dX4_atHand_19 : decode cX4_atHand 19 = .ok (.getfield 85, 3) := dk_180 0 85 (dk_at dksX4_atHand_0 19 rfl rfl)
theorem dX4_atHand_22 : decode cX4_atHand 22 = .ok (.aload_n 0, 1) := dk_42 (dk_at dksX4_atHand_0 22 rfl rfl)
theorem dX4_atHand_23 : decode cX4_atHand 23 = .ok (.getfield 51, 3) := dk_180 0 51 (dk_at dksX4_atHand_1 0 rfl rfl)
theorem dX4_atHand_26 : decode cX4_atHand 26 = .ok (.invokevirtual 158, 3) := dk_182 0 158 (dk_at dksX4_atHand_1 3 rfl rfl)
theorem dX4_atHand_29 : decode cX4_atHand 29 = .ok (.istore_n 1, 1) := dk_60 (dk_at dksX4_atHand_1 6 rfl rfl)
theorem dX4_atHand_30 : decode cX4_atHand 30 = .ok (.iload_n 1, 1) := dk_27 (dk_at dksX4_atHand_1 7 rfl rfl)
theorem dX4_atHand_31 : decode cX4_atHand 31 = .ok (.iconst (-1), 1) := dk_2 (dk_at dksX4_atHand_1 8 rfl rfl)
theorem dX4_atHand_32 : decode cX4_atHand 32 = .ok (.if_icmp .ne 9, 3) := dk_160 0 9 (dk_at dksX4_atHand_1 9 rfl rfl)
theorem dX4_atHand_35 : decode cX4_atHand 35 = .ok (.aload_n 0, 1) := dk_42 (dk_at dksX4_atHand_1 12 rfl rfl)
theorem dX4_atHand_36 : decode cX4_atHand 36 = .ok (.iconst 4, 1) := dk_7 (dk_at dksX4_atHand_1 13 rfl rfl)
theorem dX4_atHand_37 : decode cX4_atHand 37 = .ok (.invokevirtual 75, 3) := dk_182 0 75 (dk_at dksX4_atHand_1 14 rfl rfl)
theorem dX4_atHand_40 : decode cX4_atHand 40 = .ok (.athrow, 1) := dk_191 (dk_at dksX4_atHand_1 17 rfl rfl)
theorem dX4_atHand_41 : decode cX4_atHand 41 = .ok (.iload_n 1, 1) := dk_27 (dk_at dksX4_atHand_1 18 rfl rfl)
theorem dX4_atHand_42 : decode cX4_atHand 42 = .ok (.ireturn, 1) := dk_172 (dk_at dksX4_atHand_1 19 rfl rfl)
abbrev cX4_start : ByteArray := prog_8_method_16_code
def yX4_start : MethodName := ⟨RX4, "start", "()V"⟩
def dkwX4_start_1 : List UInt8 := [167, 0, 4, 3, 182, 0, 147, 43, 42, 3, 17, 3, 232, 182, 0, 151, 181, 0, 186, 177]
abbrev dktX4_start_1 : List UInt8 := dkwX4_start_1 ++ []
def dkwX4_start_0 : List UInt8 := [42, 180, 0, 85, 42, 182, 0, 173, 182, 0, 176, 76, 42, 43, 180, 0, 186, 2, 159, 0, 7, 4]
abbrev dktX4_start_0 : List UInt8 := dkwX4_start_0 ++ dktX4_start_1
theorem dksX4_start_0 : cX4_start.data.toList.drop 0 = dktX4_start_0 := by decide +kernel
theorem dksX4_start_1 : cX4_start.data.toList.drop 22 = dktX4_start_1 := dk_seg dksX4_start_0 22 rfl rfl
theorem dX4_start_0 : decode cX4_start 0 = .ok (.aload_n 0, 1) := dk_42 (dk_at dksX4_start_0 0 rfl rfl)
theorem dX4_start_1 : decode cX4_start 1 = .ok (.getfield 85, 3) := dk_180 0 85 (dk_at dksX4_start_0 1 rfl rfl)
theorem dX4_start_4 : decode cX4_start 4 = .ok (.aload_n 0, 1) := dk_42 (dk_at dksX4_start_0 4 rfl rfl)
theorem dX4_start_5 : decode cX4_start 5 = .ok (.invokevirtual 173, 3) := dk_182 0 173 (dk_at dksX4_start_0 5 rfl rfl)
theorem dX4_start_8 : decode cX4_start 8 = .ok (.invokevirtual 176, 3) := dk_182 0 176 (dk_at dksX4_start_0 8 rfl rfl)
theorem dX4_start_11 : decode cX4_start 11 = .ok (.astore_n 1, 1) := dk_76 (dk_at dksX4_start_0 11 rfl rfl)
theorem dX4_start_12 : decode cX4_start 12 = .ok (.aload_n 0, 1) := dk_42 (dk_at dksX4_start_0 12 rfl rfl)
theorem dX4_start_13 : decode cX4_start 13 = .ok (.aload_n 1, 1) := dk_43 (dk_at dksX4_start_0 13 rfl rfl)
theorem dX4_start_14 : decode cX4_start 14 = .ok (.getfield 186, 3) := dk_180 0 186 (dk_at dksX4_start_0 14 rfl rfl)
theorem dX4_start_17 : decode cX4_start 17 = .ok (.iconst (-1), 1) := dk_2 (dk_at dksX4_start_0 17 rfl rfl)
theorem dX4_start_18 : decode cX4_start 18 = .ok (.if_icmp .eq 7, 3) := dk_159 0 7 (dk_at dksX4_start_0 18 rfl rfl)
theorem dX4_start_21 : decode cX4_start 21 = .ok (.iconst 1, 1) := dk_4 (dk_at dksX4_start_0 21 rfl rfl)
theorem dX4_start_22 : decode cX4_start 22 = .ok (.goto 4, 3) := dk_167 0 4 (dk_at dksX4_start_1 0 rfl rfl)
theorem dX4_start_25 : decode cX4_start 25 = .ok (.iconst 0, 1) := dk_3 (dk_at dksX4_start_1 3 rfl rfl)
theorem dX4_start_26 : decode cX4_start 26 = .ok (.invokevirtual 147, 3) := dk_182 0 147 (dk_at dksX4_start_1 4 rfl rfl)
theorem dX4_start_29 : decode cX4_start 29 = .ok (.aload_n 1, 1) := dk_43 (dk_at dksX4_start_1 7 rfl rfl)
theorem dX4_start_30 : decode cX4_start 30 = .ok (.aload_n 0, 1) := dk_42 (dk_at dksX4_start_1 8 rfl rfl)
theorem dX4_start_31 : decode cX4_start 31 = .ok (.iconst 0, 1) := dk_3 (dk_at dksX4_start_1 9 rfl rfl)
theorem dX4_start_32 : decode cX4_start 32 = .ok (.sipush 1000, 3) := dk_17 3 232 (dk_at dksX4_start_1 10 rfl rfl)
theorem dX4_start_35 : decode cX4_start 35 = .ok (.invokevirtual 151, 3) := dk_182 0 151 (dk_at dksX4_start_1 13 rfl rfl)
theorem dX4_start_38 : decode cX4_start 38 = .ok (.putfield 186, 3) := dk_181 0 186 (dk_at dksX4_start_1 16 rfl rfl)
theorem dX4_start_41 : decode cX4_start 41 = .ok (.return_, 1) := dk_177 (dk_at dksX4_start_1 19 rfl rfl)
abbrev cX4_round : ByteArray := prog_8_method_17_code
def yX4_round : MethodName := ⟨RX4, "round", "()V"⟩
def dkwX4_round_3 : List UInt8 := [167, 0, 4, 5, 181, 0, 188, 42, 182, 0, 79, 177]
abbrev dktX4_round_3 : List UInt8 := dkwX4_round_3 ++ []
def dkwX4_round_2 : List UInt8 := [180, 0, 51, 16, 10, 160, 0, 7, 4, 167, 0, 17, 42, 180, 0, 51, 16, 11, 160, 0, 7, 3]
abbrev dktX4_round_2 : List UInt8 := dkwX4_round_2 ++ dktX4_round_3
def dkwX4_round_1 : List UInt8 := [154, 0, 12, 42, 180, 0, 51, 16, 10, 162, 0, 9, 42, 4, 182, 0, 75, 191, 42, 180, 0, 85, 42]
abbrev dktX4_round_1 : List UInt8 := dkwX4_round_1 ++ dktX4_round_2
def dkwX4_round_0 : List UInt8 := [42, 42, 180, 0, 85, 180, 0, 188, 2, 159, 0, 7, 4, 167, 0, 4, 3, 182, 0, 147, 42, 180, 0, 33]
abbrev dktX4_round_0 : List UInt8 := dkwX4_round_0 ++ dktX4_round_1
theorem dksX4_round_0 : cX4_round.data.toList.drop 0 = dktX4_round_0 := by decide +kernel
theorem dksX4_round_1 : cX4_round.data.toList.drop 24 = dktX4_round_1 := dk_seg dksX4_round_0 24 rfl rfl
theorem dksX4_round_2 : cX4_round.data.toList.drop 47 = dktX4_round_2 := dk_seg dksX4_round_1 23 rfl rfl
theorem dksX4_round_3 : cX4_round.data.toList.drop 69 = dktX4_round_3 := dk_seg dksX4_round_2 22 rfl rfl
theorem dX4_round_0 : decode cX4_round 0 = .ok (.aload_n 0, 1) := dk_42 (dk_at dksX4_round_0 0 rfl rfl)
theorem dX4_round_1 : decode cX4_round 1 = .ok (.aload_n 0, 1) := dk_42 (dk_at dksX4_round_0 1 rfl rfl)
theorem dX4_round_2 : decode cX4_round 2 = .ok (.getfield 85, 3) := dk_180 0 85 (dk_at dksX4_round_0 2 rfl rfl)
theorem dX4_round_5 : decode cX4_round 5 = .ok (.getfield 188, 3) := dk_180 0 188 (dk_at dksX4_round_0 5 rfl rfl)
theorem dX4_round_8 : decode cX4_round 8 = .ok (.iconst (-1), 1) := dk_2 (dk_at dksX4_round_0 8 rfl rfl)
theorem dX4_round_9 : decode cX4_round 9 = .ok (.if_icmp .eq 7, 3) := dk_159 0 7 (dk_at dksX4_round_0 9 rfl rfl)
theorem dX4_round_12 : decode cX4_round 12 = .ok (.iconst 1, 1) := dk_4 (dk_at dksX4_round_0 12 rfl rfl)
theorem dX4_round_13 : decode cX4_round 13 = .ok (.goto 4, 3) := dk_167 0 4 (dk_at dksX4_round_0 13 rfl rfl)
theorem dX4_round_16 : decode cX4_round 16 = .ok (.iconst 0, 1) := dk_3 (dk_at dksX4_round_0 16 rfl rfl)
theorem dX4_round_17 : decode cX4_round 17 = .ok (.invokevirtual 147, 3) := dk_182 0 147 (dk_at dksX4_round_0 17 rfl rfl)
theorem dX4_round_20 : decode cX4_round 20 = .ok (.aload_n 0, 1) := dk_42 (dk_at dksX4_round_0 20 rfl rfl)
theorem dX4_round_21 : decode cX4_round 21 = .ok (.getfield 33, 3) := dk_180 0 33 (dk_at dksX4_round_0 21 rfl rfl)
theorem dX4_round_24 : decode cX4_round 24 = .ok (.ifCond .ne 12, 3) := dk_154 0 12 (dk_at dksX4_round_1 0 rfl rfl)
theorem dX4_round_27 : decode cX4_round 27 = .ok (.aload_n 0, 1) := dk_42 (dk_at dksX4_round_1 3 rfl rfl)
theorem dX4_round_28 : decode cX4_round 28 = .ok (.getfield 51, 3) := dk_180 0 51 (dk_at dksX4_round_1 4 rfl rfl)
theorem dX4_round_31 : decode cX4_round 31 = .ok (.bipush 10, 2) := dk_16 10 (dk_at dksX4_round_1 7 rfl rfl)
theorem dX4_round_33 : decode cX4_round 33 = .ok (.if_icmp .ge 9, 3) := dk_162 0 9 (dk_at dksX4_round_1 9 rfl rfl)
theorem dX4_round_36 : decode cX4_round 36 = .ok (.aload_n 0, 1) := dk_42 (dk_at dksX4_round_1 12 rfl rfl)
theorem dX4_round_37 : decode cX4_round 37 = .ok (.iconst 1, 1) := dk_4 (dk_at dksX4_round_1 13 rfl rfl)
theorem dX4_round_38 : decode cX4_round 38 = .ok (.invokevirtual 75, 3) := dk_182 0 75 (dk_at dksX4_round_1 14 rfl rfl)
theorem dX4_round_41 : decode cX4_round 41 = .ok (.athrow, 1) := dk_191 (dk_at dksX4_round_1 17 rfl rfl)
theorem dX4_round_42 : decode cX4_round 42 = .ok (.aload_n 0, 1) := dk_42 (dk_at dksX4_round_1 18 rfl rfl)
theorem dX4_round_43 : decode cX4_round 43 = .ok (.getfield 85, 3) := dk_180 0 85 (dk_at dksX4_round_1 19 rfl rfl)
theorem dX4_round_46 : decode cX4_round 46 = .ok (.aload_n 0, 1) := dk_42 (dk_at dksX4_round_1 22 rfl rfl)
theorem dX4_round_47 : decode cX4_round 47 = .ok (.getfield 51, 3) := dk_180 0 51 (dk_at dksX4_round_2 0 rfl rfl)
theorem dX4_round_50 : decode cX4_round 50 = .ok (.bipush 10, 2) := dk_16 10 (dk_at dksX4_round_2 3 rfl rfl)
theorem dX4_round_52 : decode cX4_round 52 = .ok (.if_icmp .ne 7, 3) := dk_160 0 7 (dk_at dksX4_round_2 5 rfl rfl)
theorem dX4_round_55 : decode cX4_round 55 = .ok (.iconst 1, 1) := dk_4 (dk_at dksX4_round_2 8 rfl rfl)
theorem dX4_round_56 : decode cX4_round 56 = .ok (.goto 17, 3) := dk_167 0 17 (dk_at dksX4_round_2 9 rfl rfl)
theorem dX4_round_59 : decode cX4_round 59 = .ok (.aload_n 0, 1) := dk_42 (dk_at dksX4_round_2 12 rfl rfl)
theorem dX4_round_60 : decode cX4_round 60 = .ok (.getfield 51, 3) := dk_180 0 51 (dk_at dksX4_round_2 13 rfl rfl)
theorem dX4_round_63 : decode cX4_round 63 = .ok (.bipush 11, 2) := dk_16 11 (dk_at dksX4_round_2 16 rfl rfl)
theorem dX4_round_65 : decode cX4_round 65 = .ok (.if_icmp .ne 7, 3) := dk_160 0 7 (dk_at dksX4_round_2 18 rfl rfl)
theorem dX4_round_68 : decode cX4_round 68 = .ok (.iconst 0, 1) := dk_3 (dk_at dksX4_round_2 21 rfl rfl)
theorem dX4_round_69 : decode cX4_round 69 = .ok (.goto 4, 3) := dk_167 0 4 (dk_at dksX4_round_3 0 rfl rfl)
theorem dX4_round_72 : decode cX4_round 72 = .ok (.iconst 2, 1) := dk_5 (dk_at dksX4_round_3 3 rfl rfl)
theorem dX4_round_73 : decode cX4_round 73 = .ok (.putfield 188, 3) := dk_181 0 188 (dk_at dksX4_round_3 4 rfl rfl)
theorem dX4_round_76 : decode cX4_round 76 = .ok (.aload_n 0, 1) := dk_42 (dk_at dksX4_round_3 7 rfl rfl)
theorem dX4_round_77 : decode cX4_round 77 = .ok (.invokevirtual 79, 3) := dk_182 0 79 (dk_at dksX4_round_3 8 rfl rfl)
theorem dX4_round_80 : decode cX4_round 80 = .ok (.return_, 1) := dk_177 (dk_at dksX4_round_3 11 rfl rfl)
abbrev cX4_once : ByteArray := prog_8_method_10_code
def yX4_once : MethodName := ⟨RX4, "once", "(III)I"⟩
def dkwX4_once_0 : List UInt8 := [42, 27, 2, 159, 0, 7, 4, 167, 0, 4, 3, 182, 0, 147, 42, 28, 29, 182, 0, 151, 172]
abbrev dktX4_once_0 : List UInt8 := dkwX4_once_0 ++ []
theorem dksX4_once_0 : cX4_once.data.toList.drop 0 = dktX4_once_0 := by decide +kernel
theorem dX4_once_0 : decode cX4_once 0 = .ok (.aload_n 0, 1) := dk_42 (dk_at dksX4_once_0 0 rfl rfl)
theorem dX4_once_1 : decode cX4_once 1 = .ok (.iload_n 1, 1) := dk_27 (dk_at dksX4_once_0 1 rfl rfl)
theorem dX4_once_2 : decode cX4_once 2 = .ok (.iconst (-1), 1) := dk_2 (dk_at dksX4_once_0 2 rfl rfl)
theorem dX4_once_3 : decode cX4_once 3 = .ok (.if_icmp .eq 7, 3) := dk_159 0 7 (dk_at dksX4_once_0 3 rfl rfl)
theorem dX4_once_6 : decode cX4_once 6 = .ok (.iconst 1, 1) := dk_4 (dk_at dksX4_once_0 6 rfl rfl)
theorem dX4_once_7 : decode cX4_once 7 = .ok (.goto 4, 3) := dk_167 0 4 (dk_at dksX4_once_0 7 rfl rfl)
theorem dX4_once_10 : decode cX4_once 10 = .ok (.iconst 0, 1) := dk_3 (dk_at dksX4_once_0 10 rfl rfl)
theorem dX4_once_11 : decode cX4_once 11 = .ok (.invokevirtual 147, 3) := dk_182 0 147 (dk_at dksX4_once_0 11 rfl rfl)
theorem dX4_once_14 : decode cX4_once 14 = .ok (.aload_n 0, 1) := dk_42 (dk_at dksX4_once_0 14 rfl rfl)
theorem dX4_once_15 : decode cX4_once 15 = .ok (.iload_n 2, 1) := dk_28 (dk_at dksX4_once_0 15 rfl rfl)
theorem dX4_once_16 : decode cX4_once 16 = .ok (.iload_n 3, 1) := dk_29 (dk_at dksX4_once_0 16 rfl rfl)
theorem dX4_once_17 : decode cX4_once 17 = .ok (.invokevirtual 151, 3) := dk_182 0 151 (dk_at dksX4_once_0 17 rfl rfl)
theorem dX4_once_20 : decode cX4_once 20 = .ok (.ireturn, 1) := dk_172 (dk_at dksX4_once_0 20 rfl rfl)
abbrev cX4_told : ByteArray := prog_8_method_19_code
def yX4_told : MethodName := ⟨RX4, "told", "(III)LExemptDesk$Told;"⟩
def dkwX4_told_2 : List UInt8 := [21, 6, 42, 4, 29, 182, 0, 151, 183, 0, 216, 176]
abbrev dktX4_told_2 : List UInt8 := dkwX4_told_2 ++ []
def dkwX4_told_1 : List UInt8 := [16, 63, 182, 0, 151, 54, 5, 42, 3, 28, 182, 0, 151, 54, 6, 187, 0, 201, 89, 21, 4, 21, 5]
abbrev dktX4_told_1 : List UInt8 := dkwX4_told_1 ++ dktX4_told_2
def dkwX4_told_0 : List UInt8 := [27, 16, 12, 160, 0, 9, 42, 5, 182, 0, 75, 191, 42, 182, 0, 173, 54, 4, 42, 182, 0, 79, 42, 3]
abbrev dktX4_told_0 : List UInt8 := dkwX4_told_0 ++ dktX4_told_1
theorem dksX4_told_0 : cX4_told.data.toList.drop 0 = dktX4_told_0 := by decide +kernel
theorem dksX4_told_1 : cX4_told.data.toList.drop 24 = dktX4_told_1 := dk_seg dksX4_told_0 24 rfl rfl
theorem dksX4_told_2 : cX4_told.data.toList.drop 47 = dktX4_told_2 := dk_seg dksX4_told_1 23 rfl rfl
theorem dX4_told_0 : decode cX4_told 0 = .ok (.iload_n 1, 1) := dk_27 (dk_at dksX4_told_0 0 rfl rfl)
theorem dX4_told_1 : decode cX4_told 1 = .ok (.bipush 12, 2) := dk_16 12 (dk_at dksX4_told_0 1 rfl rfl)
theorem dX4_told_3 : decode cX4_told 3 = .ok (.if_icmp .ne 9, 3) := dk_160 0 9 (dk_at dksX4_told_0 3 rfl rfl)
theorem dX4_told_6 : decode cX4_told 6 = .ok (.aload_n 0, 1) := dk_42 (dk_at dksX4_told_0 6 rfl rfl)
theorem dX4_told_7 : decode cX4_told 7 = .ok (.iconst 2, 1) := dk_5 (dk_at dksX4_told_0 7 rfl rfl)
theorem dX4_told_8 : decode cX4_told 8 = .ok (.invokevirtual 75, 3) := dk_182 0 75 (dk_at dksX4_told_0 8 rfl rfl)
theorem dX4_told_11 : decode cX4_told 11 = .ok (.athrow, 1) := dk_191 (dk_at dksX4_told_0 11 rfl rfl)
theorem dX4_told_12 : decode cX4_told 12 = .ok (.aload_n 0, 1) := dk_42 (dk_at dksX4_told_0 12 rfl rfl)
theorem dX4_told_13 : decode cX4_told 13 = .ok (.invokevirtual 173, 3) := dk_182 0 173 (dk_at dksX4_told_0 13 rfl rfl)
theorem dX4_told_16 : decode cX4_told 16 = .ok (.istore 4, 2) := dk_54 4 (dk_at dksX4_told_0 16 rfl rfl)
theorem dX4_told_18 : decode cX4_told 18 = .ok (.aload_n 0, 1) := dk_42 (dk_at dksX4_told_0 18 rfl rfl)
theorem dX4_told_19 : decode cX4_told 19 = .ok (.invokevirtual 79, 3) := dk_182 0 79 (dk_at dksX4_told_0 19 rfl rfl)
theorem dX4_told_22 : decode cX4_told 22 = .ok (.aload_n 0, 1) := dk_42 (dk_at dksX4_told_0 22 rfl rfl)
theorem dX4_told_23 : decode cX4_told 23 = .ok (.iconst 0, 1) := dk_3 (dk_at dksX4_told_0 23 rfl rfl)
theorem dX4_told_24 : decode cX4_told 24 = .ok (.bipush 63, 2) := dk_16 63 (dk_at dksX4_told_1 0 rfl rfl)
theorem dX4_told_26 : decode cX4_told 26 = .ok (.invokevirtual 151, 3) := dk_182 0 151 (dk_at dksX4_told_1 2 rfl rfl)
theorem dX4_told_29 : decode cX4_told 29 = .ok (.istore 5, 2) := dk_54 5 (dk_at dksX4_told_1 5 rfl rfl)
theorem dX4_told_31 : decode cX4_told 31 = .ok (.aload_n 0, 1) := dk_42 (dk_at dksX4_told_1 7 rfl rfl)
theorem dX4_told_32 : decode cX4_told 32 = .ok (.iconst 0, 1) := dk_3 (dk_at dksX4_told_1 8 rfl rfl)
theorem dX4_told_33 : decode cX4_told 33 = .ok (.iload_n 2, 1) := dk_28 (dk_at dksX4_told_1 9 rfl rfl)
theorem dX4_told_34 : decode cX4_told 34 = .ok (.invokevirtual 151, 3) := dk_182 0 151 (dk_at dksX4_told_1 10 rfl rfl)
theorem dX4_told_37 : decode cX4_told 37 = .ok (.istore 6, 2) := dk_54 6 (dk_at dksX4_told_1 13 rfl rfl)
theorem dX4_told_39 : decode cX4_told 39 = .ok (.new 201, 3) := dk_187 0 201 (dk_at dksX4_told_1 15 rfl rfl)
theorem dX4_told_42 : decode cX4_told 42 = .ok (.dup, 1) := dk_89 (dk_at dksX4_told_1 18 rfl rfl)
theorem dX4_told_43 : decode cX4_told 43 = .ok (.iload 4, 2) := dk_21 4 (dk_at dksX4_told_1 19 rfl rfl)
theorem dX4_told_45 : decode cX4_told 45 = .ok (.iload 5, 2) := dk_21 5 (dk_at dksX4_told_1 21 rfl rfl)
theorem dX4_told_47 : decode cX4_told 47 = .ok (.iload 6, 2) := dk_21 6 (dk_at dksX4_told_2 0 rfl rfl)
theorem dX4_told_49 : decode cX4_told 49 = .ok (.aload_n 0, 1) := dk_42 (dk_at dksX4_told_2 2 rfl rfl)
theorem dX4_told_50 : decode cX4_told 50 = .ok (.iconst 1, 1) := dk_4 (dk_at dksX4_told_2 3 rfl rfl)
theorem dX4_told_51 : decode cX4_told 51 = .ok (.iload_n 3, 1) := dk_29 (dk_at dksX4_told_2 4 rfl rfl)
theorem dX4_told_52 : decode cX4_told 52 = .ok (.invokevirtual 151, 3) := dk_182 0 151 (dk_at dksX4_told_2 5 rfl rfl)
theorem dX4_told_55 : decode cX4_told 55 = .ok (.invokespecial 216, 3) := dk_183 0 216 (dk_at dksX4_told_2 8 rfl rfl)
theorem dX4_told_58 : decode cX4_told 58 = .ok (.areturn, 1) := dk_176 (dk_at dksX4_told_2 11 rfl rfl)
abbrev cX4_newAsset : ByteArray := prog_8_method_18_code
def yX4_newAsset : MethodName := ⟨RX4, "newAsset", "()V"⟩
def dkwX4_newAsset_4 : List UInt8 := [183, 0, 213, 182, 0, 134, 87, 42, 182, 0, 79, 177]
abbrev dktX4_newAsset_4 : List UInt8 := dkwX4_newAsset_4 ++ []
def dkwX4_newAsset_3 : List UInt8 := [187, 0, 198, 89, 43, 180, 0, 200, 43, 180, 0, 204, 43, 180, 0, 207, 43, 180, 0, 210, 42, 180, 0, 51]
abbrev dktX4_newAsset_3 : List UInt8 := dkwX4_newAsset_3 ++ dktX4_newAsset_4
def dkwX4_newAsset_2 : List UInt8 := [180, 0, 51, 184, 0, 194, 154, 0, 9, 42, 5, 182, 0, 75, 191, 42, 180, 0, 85, 180, 0, 191]
abbrev dktX4_newAsset_2 : List UInt8 := dkwX4_newAsset_2 ++ dktX4_newAsset_3
def dkwX4_newAsset_1 : List UInt8 := [17, 39, 15, 182, 0, 130, 76, 42, 180, 0, 33, 5, 159, 0, 9, 42, 4, 182, 0, 75, 191, 42]
abbrev dktX4_newAsset_1 : List UInt8 := dkwX4_newAsset_1 ++ dktX4_newAsset_2
def dkwX4_newAsset_0 : List UInt8 := [42, 180, 0, 85, 180, 0, 191, 182, 0, 125, 7, 160, 0, 9, 42, 5, 182, 0, 75, 191, 42, 3, 5]
abbrev dktX4_newAsset_0 : List UInt8 := dkwX4_newAsset_0 ++ dktX4_newAsset_1
theorem dksX4_newAsset_0 : cX4_newAsset.data.toList.drop 0 = dktX4_newAsset_0 := by decide +kernel
theorem dksX4_newAsset_1 : cX4_newAsset.data.toList.drop 23 = dktX4_newAsset_1 := dk_seg dksX4_newAsset_0 23 rfl rfl
theorem dksX4_newAsset_2 : cX4_newAsset.data.toList.drop 45 = dktX4_newAsset_2 := dk_seg dksX4_newAsset_1 22 rfl rfl
theorem dksX4_newAsset_3 : cX4_newAsset.data.toList.drop 67 = dktX4_newAsset_3 := dk_seg dksX4_newAsset_2 22 rfl rfl
theorem dksX4_newAsset_4 : cX4_newAsset.data.toList.drop 91 = dktX4_newAsset_4 := dk_seg dksX4_newAsset_3 24 rfl rfl
theorem dX4_newAsset_0 : decode cX4_newAsset 0 = .ok (.aload_n 0, 1) := dk_42 (dk_at dksX4_newAsset_0 0 rfl rfl)
theorem dX4_newAsset_1 : decode cX4_newAsset 1 = .ok (.getfield 85, 3) := dk_180 0 85 (dk_at dksX4_newAsset_0 1 rfl rfl)
theorem dX4_newAsset_4 : decode cX4_newAsset 4 = .ok (.getfield 191, 3) := dk_180 0 191 (dk_at dksX4_newAsset_0 4 rfl rfl)
theorem dX4_newAsset_7 : decode cX4_newAsset 7 = .ok (.invokevirtual 125, 3) := dk_182 0 125 (dk_at dksX4_newAsset_0 7 rfl rfl)
theorem dX4_newAsset_10 : decode cX4_newAsset 10 = .ok (.iconst 4, 1) := dk_7 (dk_at dksX4_newAsset_0 10 rfl rfl)
theorem dX4_newAsset_11 : decode cX4_newAsset 11 = .ok (.if_icmp .ne 9, 3) := dk_160 0 9 (dk_at dksX4_newAsset_0 11 rfl rfl)
theorem dX4_newAsset_14 : decode cX4_newAsset 14 = .ok (.aload_n 0, 1) := dk_42 (dk_at dksX4_newAsset_0 14 rfl rfl)
theorem dX4_newAsset_15 : decode cX4_newAsset 15 = .ok (.iconst 2, 1) := dk_5 (dk_at dksX4_newAsset_0 15 rfl rfl)
theorem dX4_newAsset_16 : decode cX4_newAsset 16 = .ok (.invokevirtual 75, 3) := dk_182 0 75 (dk_at dksX4_newAsset_0 16 rfl rfl)
theorem dX4_newAsset_19 : decode cX4_newAsset 19 = .ok (.athrow, 1) := dk_191 (dk_at dksX4_newAsset_0 19 rfl rfl)
theorem dX4_newAsset_20 : decode cX4_newAsset 20 = .ok (.aload_n 0, 1) := dk_42 (dk_at dksX4_newAsset_0 20 rfl rfl)
theorem dX4_newAsset_21 : decode cX4_newAsset 21 = .ok (.iconst 0, 1) := dk_3 (dk_at dksX4_newAsset_0 21 rfl rfl)
theorem dX4_newAsset_22 : decode cX4_newAsset 22 = .ok (.iconst 2, 1) := dk_5 (dk_at dksX4_newAsset_0 22 rfl rfl)
theorem dX4_newAsset_23 : decode cX4_newAsset 23 = .ok (.sipush 9999, 3) := dk_17 39 15 (dk_at dksX4_newAsset_1 0 rfl rfl)
theorem dX4_newAsset_26 : decode cX4_newAsset 26 = .ok (.invokevirtual 130, 3) := dk_182 0 130 (dk_at dksX4_newAsset_1 3 rfl rfl)
theorem dX4_newAsset_29 : decode cX4_newAsset 29 = .ok (.astore_n 1, 1) := dk_76 (dk_at dksX4_newAsset_1 6 rfl rfl)
theorem dX4_newAsset_30 : decode cX4_newAsset 30 = .ok (.aload_n 0, 1) := dk_42 (dk_at dksX4_newAsset_1 7 rfl rfl)
theorem dX4_newAsset_31 : decode cX4_newAsset 31 = .ok (.getfield 33, 3) := dk_180 0 33 (dk_at dksX4_newAsset_1 8 rfl rfl)
theorem dX4_newAsset_34 : decode cX4_newAsset 34 = .ok (.iconst 2, 1) := dk_5 (dk_at dksX4_newAsset_1 11 rfl rfl)
theorem dX4_newAsset_35 : decode cX4_newAsset 35 = .ok (.if_icmp .eq 9, 3) := dk_159 0 9 (dk_at dksX4_newAsset_1 12 rfl rfl)
theorem dX4_newAsset_38 : decode cX4_newAsset 38 = .ok (.aload_n 0, 1) := dk_42 (dk_at dksX4_newAsset_1 15 rfl rfl)
theorem dX4_newAsset_39 : decode cX4_newAsset 39 = .ok (.iconst 1, 1) := dk_4 (dk_at dksX4_newAsset_1 16 rfl rfl)
theorem dX4_newAsset_40 : decode cX4_newAsset 40 = .ok (.invokevirtual 75, 3) := dk_182 0 75 (dk_at dksX4_newAsset_1 17 rfl rfl)
theorem dX4_newAsset_43 : decode cX4_newAsset 43 = .ok (.athrow, 1) := dk_191 (dk_at dksX4_newAsset_1 20 rfl rfl)
theorem dX4_newAsset_44 : decode cX4_newAsset 44 = .ok (.aload_n 0, 1) := dk_42 (dk_at dksX4_newAsset_1 21 rfl rfl)
theorem dX4_newAsset_45 : decode cX4_newAsset 45 = .ok (.getfield 51, 3) := dk_180 0 51 (dk_at dksX4_newAsset_2 0 rfl rfl)
theorem dX4_newAsset_48 : decode cX4_newAsset 48 = .ok (.invokestatic 194, 3) := dk_184 0 194 (dk_at dksX4_newAsset_2 3 rfl rfl)
theorem dX4_newAsset_51 : decode cX4_newAsset 51 = .ok (.ifCond .ne 9, 3) := dk_154 0 9 (dk_at dksX4_newAsset_2 6 rfl rfl)
theorem dX4_newAsset_54 : decode cX4_newAsset 54 = .ok (.aload_n 0, 1) := dk_42 (dk_at dksX4_newAsset_2 9 rfl rfl)
theorem dX4_newAsset_55 : decode cX4_newAsset 55 = .ok (.iconst 2, 1) := dk_5 (dk_at dksX4_newAsset_2 10 rfl rfl)
theorem dX4_newAsset_56 : decode cX4_newAsset 56 = .ok (.invokevirtual 75, 3) := dk_182 0 75 (dk_at dksX4_newAsset_2 11 rfl rfl)
theorem dX4_newAsset_59 : decode cX4_newAsset 59 = .ok (.athrow, 1) := dk_191 (dk_at dksX4_newAsset_2 14 rfl rfl)
theorem dX4_newAsset_60 : decode cX4_newAsset 60 = .ok (.aload_n 0, 1) := dk_42 (dk_at dksX4_newAsset_2 15 rfl rfl)
theorem dX4_newAsset_61 : decode cX4_newAsset 61 = .ok (.getfield 85, 3) := dk_180 0 85 (dk_at dksX4_newAsset_2 16 rfl rfl)
theorem dX4_newAsset_64 : decode cX4_newAsset 64 = .ok (.getfield 191, 3) := dk_180 0 191 (dk_at dksX4_newAsset_2 19 rfl rfl)
theorem dX4_newAsset_67 : decode cX4_newAsset 67 = .ok (.new 198, 3) := dk_187 0 198 (dk_at dksX4_newAsset_3 0 rfl rfl)
theorem dX4_newAsset_70 : decode cX4_newAsset 70 = .ok (.dup, 1) := dk_89 (dk_at dksX4_newAsset_3 3 rfl rfl)
theorem dX4_newAsset_71 : decode cX4_newAsset 71 = .ok (.aload_n 1, 1) := dk_43 (dk_at dksX4_newAsset_3 4 rfl rfl)
theorem dX4_newAsset_72 : decode cX4_newAsset 72 = .ok (.getfield 200, 3) := dk_180 0 200 (dk_at dksX4_newAsset_3 5 rfl rfl)
theorem dX4_newAsset_75 : decode cX4_newAsset 75 = .ok (.aload_n 1, 1) := dk_43 (dk_at dksX4_newAsset_3 8 rfl rfl)
theorem dX4_newAsset_76 : decode cX4_newAsset 76 = .ok (.getfield 204, 3) := dk_180 0 204 (dk_at dksX4_newAsset_3 9 rfl rfl)
theorem dX4_newAsset_79 : decode cX4_newAsset 79 = .ok (.aload_n 1, 1) := dk_43 (dk_at dksX4_newAsset_3 12 rfl rfl)
theorem dX4_newAsset_80 : decode cX4_newAsset 80 = .ok (.getfield 207, 3) := dk_180 0 207 (dk_at dksX4_newAsset_3 13 rfl rfl)
theorem dX4_newAsset_83 : decode cX4_newAsset 83 = .ok (.aload_n 1, 1) := dk_43 (dk_at dksX4_newAsset_3 16 rfl rfl)
theorem dX4_newAsset_84 : decode cX4_newAsset 84 = .ok (.getfield 210, 3) := dk_180 0 210 (dk_at dksX4_newAsset_3 17 rfl rfl)
theorem dX4_newAsset_87 : decode cX4_newAsset 87 = .ok (.aload_n 0, 1) := dk_42 (dk_at dksX4_newAsset_3 20 rfl rfl)
theorem dX4_newAsset_88 : decode cX4_newAsset 88 = .ok (.getfield 51, 3) := dk_180 0 51 (dk_at dksX4_newAsset_3 21 rfl rfl)
theorem dX4_newAsset_91 : decode cX4_newAsset 91 = .ok (.invokespecial 213, 3) := dk_183 0 213 (dk_at dksX4_newAsset_4 0 rfl rfl)
theorem dX4_newAsset_94 : decode cX4_newAsset 94 = .ok (.invokevirtual 134, 3) := dk_182 0 134 (dk_at dksX4_newAsset_4 3 rfl rfl)
theorem dX4_newAsset_97 : decode cX4_newAsset 97 = .ok (.pop, 1) := dk_87 (dk_at dksX4_newAsset_4 6 rfl rfl)
theorem dX4_newAsset_98 : decode cX4_newAsset 98 = .ok (.aload_n 0, 1) := dk_42 (dk_at dksX4_newAsset_4 7 rfl rfl)
theorem dX4_newAsset_99 : decode cX4_newAsset 99 = .ok (.invokevirtual 79, 3) := dk_182 0 79 (dk_at dksX4_newAsset_4 8 rfl rfl)
theorem dX4_newAsset_102 : decode cX4_newAsset 102 = .ok (.return_, 1) := dk_177 (dk_at dksX4_newAsset_4 11 rfl rfl)
theorem q135 : (Jvm.Cond.initialized "ExemptDesk$Reader") ∈ lw_all := lw_g (lw_at lw_m1 13 rfl) rfl
theorem q222 : (Jvm.Cond.selects "ExemptDesk$Reader" ({ cls := "java/lang/Object", name := "getClass", desc := "()Ljava/lang/Class;" } : Jvm.MethodName) ({ cls := "java/lang/Object", name := "getClass", desc := "()Ljava/lang/Class;" } : Jvm.MethodName)) ∈ lw_all := lw_g (lw_at lw_m1 100 rfl) rfl
theorem q321 : (Jvm.Cond.instantiable "ExemptDesk$Reader" (7 : Nat)) ∈ lw_all := lw_g (lw_at lw_m1 199 rfl) rfl
theorem q323 : (Jvm.Cond.instanceMethod ({ cls := "ExemptDesk$Reader", name := "<init>", desc := "(LExemptDesk;)V" } : Jvm.MethodName)) ∈ lw_all := lw_g (lw_at lw_m1 201 rfl) rfl
theorem q324 : (Jvm.Cond.code ({ cls := "ExemptDesk$Reader", name := "<init>", desc := "(LExemptDesk;)V" } : Jvm.MethodName) prog_8_method_1_code (2 : Nat) (Option.none : Option Jvm.ClassFile.FieldType)) ∈ lw_all := lw_g (lw_at lw_m1 202 rfl) rfl
theorem q325 : (Jvm.Cond.methodLink "ExemptDesk$Reader" (9 : Nat) ({ cls := "java/lang/Object", name := "<init>", desc := "()V" } : Jvm.MethodName)) ∈ lw_all := lw_g (lw_at lw_m1 203 rfl) rfl
theorem q326 : (Jvm.Cond.fieldLink "ExemptDesk$Reader" (15 : Nat) "ExemptDesk$Reader" "at" "I") ∈ lw_all := lw_g (lw_at lw_m1 204 rfl) rfl
theorem q327 : (Jvm.Cond.fieldLink "ExemptDesk$Reader" (19 : Nat) "ExemptDesk$Reader" "length" "I") ∈ lw_all := lw_g (lw_at lw_m1 205 rfl) rfl
theorem q328 : (Jvm.Cond.fieldLink "ExemptDesk$Reader" (30 : Nat) "ExemptDesk$Reader" "place" "I") ∈ lw_all := lw_g (lw_at lw_m1 206 rfl) rfl
theorem q329 : (Jvm.Cond.fieldLink "ExemptDesk$Reader" (33 : Nat) "ExemptDesk$Reader" "sort" "I") ∈ lw_all := lw_g (lw_at lw_m1 207 rfl) rfl
theorem q330 : (Jvm.Cond.fieldLink "ExemptDesk$Reader" (51 : Nat) "ExemptDesk$Reader" "value" "I") ∈ lw_all := lw_g (lw_at lw_m1 208 rfl) rfl
theorem q331 : (Jvm.Cond.fieldLink "ExemptDesk$Reader" (85 : Nat) "ExemptDesk$Reader" "made" "LExemptDesk$Text;") ∈ lw_all := lw_g (lw_at lw_m1 209 rfl) rfl
theorem q332 : (Jvm.Cond.fieldLink "ExemptDesk$Reader" (3 : Nat) "ExemptDesk$Reader" "this$0" "LExemptDesk;") ∈ lw_all := lw_g (lw_at lw_m1 210 rfl) rfl
theorem q333 : (Jvm.Cond.lays "ExemptDesk$Reader" "ExemptDesk$Reader" "at" "I") ∈ lw_all := lw_g (lw_at lw_m1 211 rfl) rfl
theorem q334 : (Jvm.Cond.soleField "ExemptDesk$Reader" "at") ∈ lw_all := lw_g (lw_at lw_m1 212 rfl) rfl
theorem q335 : (Jvm.Cond.lays "ExemptDesk$Reader" "ExemptDesk$Reader" "length" "I") ∈ lw_all := lw_g (lw_at lw_m1 213 rfl) rfl
theorem q336 : (Jvm.Cond.soleField "ExemptDesk$Reader" "length") ∈ lw_all := lw_g (lw_at lw_m1 214 rfl) rfl
theorem q337 : (Jvm.Cond.lays "ExemptDesk$Reader" "ExemptDesk$Reader" "place" "I") ∈ lw_all := lw_g (lw_at lw_m1 215 rfl) rfl
theorem q338 : (Jvm.Cond.soleField "ExemptDesk$Reader" "place") ∈ lw_all := lw_g (lw_at lw_m1 216 rfl) rfl
theorem q339 : (Jvm.Cond.lays "ExemptDesk$Reader" "ExemptDesk$Reader" "sort" "I") ∈ lw_all := lw_g (lw_at lw_m1 217 rfl) rfl
theorem q340 : (Jvm.Cond.soleField "ExemptDesk$Reader" "sort") ∈ lw_all := lw_g (lw_at lw_m1 218 rfl) rfl
theorem q341 : (Jvm.Cond.lays "ExemptDesk$Reader" "ExemptDesk$Reader" "value" "I") ∈ lw_all := lw_g (lw_at lw_m1 219 rfl) rfl
theorem q342 : (Jvm.Cond.soleField "ExemptDesk$Reader" "value") ∈ lw_all := lw_g (lw_at lw_m1 220 rfl) rfl
theorem q343 : (Jvm.Cond.lays "ExemptDesk$Reader" "ExemptDesk$Reader" "made" "LExemptDesk$Text;") ∈ lw_all := lw_g (lw_at lw_m1 221 rfl) rfl
theorem q344 : (Jvm.Cond.soleField "ExemptDesk$Reader" "made") ∈ lw_all := lw_g (lw_at lw_m1 222 rfl) rfl
theorem q345 : (Jvm.Cond.laysFinal "ExemptDesk$Reader" "ExemptDesk$Reader" "this$0" "LExemptDesk;") ∈ lw_all := lw_g (lw_at lw_m1 223 rfl) rfl
theorem q346 : (Jvm.Cond.soleField "ExemptDesk$Reader" "this$0") ∈ lw_all := lw_g (lw_at lw_m1 224 rfl) rfl
theorem q347 : (Jvm.Cond.superclass "ExemptDesk$Reader" "java/lang/Object") ∈ lw_all := lw_g (lw_at lw_m1 225 rfl) rfl
theorem q386 : (Jvm.Cond.fieldLinkNest "ExemptDesk$Reader" (165 : Nat) "ExemptDesk$Text" "traders" "Ljava/util/LinkedList;" "ExemptDesk") ∈ lw_tbl := lw_at lw_m2 24 rfl
theorem q389 : (Jvm.Cond.fieldLinkNest "ExemptDesk$Reader" (121 : Nat) "ExemptDesk$Text" "sales" "Ljava/util/LinkedList;" "ExemptDesk") ∈ lw_tbl := lw_at lw_m2 27 rfl
theorem q393 : (Jvm.Cond.fieldLinkNest "ExemptDesk$Reader" (138 : Nat) "ExemptDesk$Text" "buys" "Ljava/util/LinkedList;" "ExemptDesk") ∈ lw_tbl := lw_at lw_m2 31 rfl
theorem q397 : (Jvm.Cond.fieldLinkNest "ExemptDesk$Reader" (191 : Nat) "ExemptDesk$Text" "assets" "Ljava/util/LinkedList;" "ExemptDesk") ∈ lw_tbl := lw_at lw_m2 35 rfl
theorem q401 : (Jvm.Cond.fieldLinkNest "ExemptDesk$Reader" (188 : Nat) "ExemptDesk$Text" "way" "I" "ExemptDesk") ∈ lw_tbl := lw_at lw_m2 39 rfl
theorem q404 : (Jvm.Cond.fieldLinkNest "ExemptDesk$Reader" (108 : Nat) "ExemptDesk$Text" "step" "I" "ExemptDesk") ∈ lw_tbl := lw_at lw_m2 42 rfl
theorem q408 : (Jvm.Cond.fieldLinkNest "ExemptDesk$Reader" (115 : Nat) "ExemptDesk$Text" "limit" "I" "ExemptDesk") ∈ lw_tbl := lw_at lw_m2 46 rfl
theorem q412 : (Jvm.Cond.fieldLinkNest "ExemptDesk$Reader" (118 : Nat) "ExemptDesk$Text" "seed" "I" "ExemptDesk") ∈ lw_tbl := lw_at lw_m2 50 rfl
theorem q415 : (Jvm.Cond.fieldLinkNest "ExemptDesk$Reader" (144 : Nat) "ExemptDesk$Text" "lines" "I" "ExemptDesk") ∈ lw_tbl := lw_at lw_m2 53 rfl
theorem q1252 : (Jvm.Cond.fieldLinkNest "ExemptDesk$Reader" (22 : Nat) "ExemptDesk" "tape" "[B" "ExemptDesk") ∈ lw_tbl := lw_at lw_m5 170 rfl
theorem q1312 : (Jvm.Cond.instanceMethod ({ cls := "ExemptDesk$Reader", name := "read", desc := "(I)LExemptDesk$Text;" } : Jvm.MethodName)) ∈ lw_all := lw_g (lw_at lw_m5 230 rfl) rfl
theorem q1313 : (Jvm.Cond.selects "ExemptDesk$Reader" ({ cls := "ExemptDesk$Reader", name := "read", desc := "(I)LExemptDesk$Text;" } : Jvm.MethodName) ({ cls := "ExemptDesk$Reader", name := "read", desc := "(I)LExemptDesk$Text;" } : Jvm.MethodName)) ∈ lw_all := lw_g (lw_at lw_m5 231 rfl) rfl
theorem q1314 : (Jvm.Cond.code ({ cls := "ExemptDesk$Reader", name := "read", desc := "(I)LExemptDesk$Text;" } : Jvm.MethodName) prog_8_method_8_code (2 : Nat) (Option.some (Jvm.ClassFile.FieldType.object "ExemptDesk$Text"))) ∈ lw_all := lw_g (lw_at lw_m5 232 rfl) rfl
theorem q1315 : (Jvm.Cond.classLink "ExemptDesk$Reader" (82 : Nat) "ExemptDesk$Text") ∈ lw_all := lw_g (lw_at lw_m5 233 rfl) rfl
theorem q1316 : (Jvm.Cond.methodLinkNest "ExemptDesk$Reader" (84 : Nat) ({ cls := "ExemptDesk$Text", name := "<init>", desc := "()V" } : Jvm.MethodName) "ExemptDesk") ∈ lw_tbl := lw_at lw_m5 234 rfl
theorem q1317 : (Jvm.Cond.methodLink "ExemptDesk$Reader" (79 : Nat) ({ cls := "ExemptDesk$Reader", name := "next", desc := "()V" } : Jvm.MethodName)) ∈ lw_all := lw_g (lw_at lw_m5 235 rfl) rfl
theorem q1318 : (Jvm.Cond.privateMethod ({ cls := "ExemptDesk$Reader", name := "next", desc := "()V" } : Jvm.MethodName)) ∈ lw_tbl := lw_at lw_m5 236 rfl
theorem q1319 : (Jvm.Cond.instanceMethod ({ cls := "ExemptDesk$Reader", name := "next", desc := "()V" } : Jvm.MethodName)) ∈ lw_all := lw_g (lw_at lw_m5 237 rfl) rfl
theorem q1320 : (Jvm.Cond.code ({ cls := "ExemptDesk$Reader", name := "next", desc := "()V" } : Jvm.MethodName) prog_8_method_3_code (1 : Nat) (Option.none : Option Jvm.ClassFile.FieldType)) ∈ lw_all := lw_g (lw_at lw_m5 238 rfl) rfl
theorem q1321 : (Jvm.Cond.methodLink "ExemptDesk$Reader" (26 : Nat) ({ cls := "ExemptDesk$Reader", name := "here", desc := "()I" } : Jvm.MethodName)) ∈ lw_all := lw_g (lw_at lw_m5 239 rfl) rfl
theorem q1322 : (Jvm.Cond.privateMethod ({ cls := "ExemptDesk$Reader", name := "here", desc := "()I" } : Jvm.MethodName)) ∈ lw_tbl := lw_at lw_m6 0 rfl
theorem q1323 : (Jvm.Cond.instanceMethod ({ cls := "ExemptDesk$Reader", name := "here", desc := "()I" } : Jvm.MethodName)) ∈ lw_all := lw_g (lw_at lw_m6 1 rfl) rfl
theorem q1324 : (Jvm.Cond.code ({ cls := "ExemptDesk$Reader", name := "here", desc := "()I" } : Jvm.MethodName) prog_8_method_2_code (1 : Nat) (Option.some Jvm.ClassFile.FieldType.int)) ∈ lw_all := lw_g (lw_at lw_m6 2 rfl) rfl
theorem q1325 : (Jvm.Cond.constantLong "ExemptDesk$Reader" (36 : Nat) (97 : Int64)) ∈ lw_all := lw_g (lw_at lw_m6 3 rfl) rfl
theorem q1326 : (Jvm.Cond.constantLong "ExemptDesk$Reader" (38 : Nat) (122 : Int64)) ∈ lw_all := lw_g (lw_at lw_m6 4 rfl) rfl
theorem q1327 : (Jvm.Cond.methodLinkNest "ExemptDesk$Reader" (40 : Nat) ({ cls := "ExemptDesk", name := "in", desc := "(JJJ)Z" } : Jvm.MethodName) "ExemptDesk") ∈ lw_tbl := lw_at lw_m6 5 rfl
theorem q1328 : (Jvm.Cond.methodLink "ExemptDesk$Reader" (44 : Nat) ({ cls := "ExemptDesk$Reader", name := "letters", desc := "()V" } : Jvm.MethodName)) ∈ lw_all := lw_g (lw_at lw_m6 6 rfl) rfl
theorem q1329 : (Jvm.Cond.privateMethod ({ cls := "ExemptDesk$Reader", name := "letters", desc := "()V" } : Jvm.MethodName)) ∈ lw_tbl := lw_at lw_m6 7 rfl
theorem q1330 : (Jvm.Cond.instanceMethod ({ cls := "ExemptDesk$Reader", name := "letters", desc := "()V" } : Jvm.MethodName)) ∈ lw_all := lw_g (lw_at lw_m6 8 rfl) rfl
theorem q1331 : (Jvm.Cond.code ({ cls := "ExemptDesk$Reader", name := "letters", desc := "()V" } : Jvm.MethodName) prog_8_method_4_code (2 : Nat) (Option.none : Option Jvm.ClassFile.FieldType)) ∈ lw_all := lw_g (lw_at lw_m6 9 rfl) rfl
theorem q1332 : (Jvm.Cond.methodLink "ExemptDesk$Reader" (55 : Nat) ({ cls := "ExemptDesk$Reader", name := "word", desc := "()I" } : Jvm.MethodName)) ∈ lw_all := lw_g (lw_at lw_m6 10 rfl) rfl
theorem q1333 : (Jvm.Cond.privateMethod ({ cls := "ExemptDesk$Reader", name := "word", desc := "()I" } : Jvm.MethodName)) ∈ lw_tbl := lw_at lw_m6 11 rfl
theorem q1334 : (Jvm.Cond.instanceMethod ({ cls := "ExemptDesk$Reader", name := "word", desc := "()I" } : Jvm.MethodName)) ∈ lw_all := lw_g (lw_at lw_m6 12 rfl) rfl
theorem q1335 : (Jvm.Cond.code ({ cls := "ExemptDesk$Reader", name := "word", desc := "()I" } : Jvm.MethodName) prog_8_method_5_code (3 : Nat) (Option.some Jvm.ClassFile.FieldType.int)) ∈ lw_all := lw_g (lw_at lw_m6 13 rfl) rfl
theorem q1336 : (Jvm.Cond.fieldLinkNest "ExemptDesk$Reader" (58 : Nat) "ExemptDesk" "NAMES" "[Ljava/lang/String;" "ExemptDesk") ∈ lw_tbl := lw_at lw_m6 14 rfl
theorem q1338 : (Jvm.Cond.methodLink "ExemptDesk$Reader" (62 : Nat) ({ cls := "java/lang/String", name := "length", desc := "()I" } : Jvm.MethodName)) ∈ lw_all := lw_g (lw_at lw_m6 16 rfl) rfl
theorem q1339 : (Jvm.Cond.methodLink "ExemptDesk$Reader" (66 : Nat) ({ cls := "java/lang/String", name := "charAt", desc := "(I)C" } : Jvm.MethodName)) ∈ lw_all := lw_g (lw_at lw_m6 17 rfl) rfl
theorem q1363 : (Jvm.Cond.constantLong "ExemptDesk$Reader" (47 : Nat) (48 : Int64)) ∈ lw_all := lw_g (lw_at lw_m6 41 rfl) rfl
theorem q1364 : (Jvm.Cond.constantLong "ExemptDesk$Reader" (49 : Nat) (57 : Int64)) ∈ lw_all := lw_g (lw_at lw_m6 42 rfl) rfl
theorem q1365 : (Jvm.Cond.constant "ExemptDesk$Reader" (54 : Nat) (99999 : Int32)) ∈ lw_all := lw_g (lw_at lw_m6 43 rfl) rfl
theorem q1366 : (Jvm.Cond.methodLink "ExemptDesk$Reader" (89 : Nat) ({ cls := "ExemptDesk$Reader", name := "line", desc := "()V" } : Jvm.MethodName)) ∈ lw_all := lw_g (lw_at lw_m6 44 rfl) rfl
theorem q1367 : (Jvm.Cond.privateMethod ({ cls := "ExemptDesk$Reader", name := "line", desc := "()V" } : Jvm.MethodName)) ∈ lw_tbl := lw_at lw_m6 45 rfl
theorem q1368 : (Jvm.Cond.instanceMethod ({ cls := "ExemptDesk$Reader", name := "line", desc := "()V" } : Jvm.MethodName)) ∈ lw_all := lw_g (lw_at lw_m6 46 rfl) rfl
theorem q1369 : (Jvm.Cond.code ({ cls := "ExemptDesk$Reader", name := "line", desc := "()V" } : Jvm.MethodName) prog_8_method_9_code (1 : Nat) (Option.none : Option Jvm.ClassFile.FieldType)) ∈ lw_all := lw_g (lw_at lw_m6 47 rfl) rfl
theorem q1370 : (Jvm.Cond.methodLink "ExemptDesk$Reader" (75 : Nat) ({ cls := "ExemptDesk$Reader", name := "wrong", desc := "(I)LExemptDesk$Wrong;" } : Jvm.MethodName)) ∈ lw_all := lw_g (lw_at lw_m6 48 rfl) rfl
theorem q1371 : (Jvm.Cond.privateMethod ({ cls := "ExemptDesk$Reader", name := "wrong", desc := "(I)LExemptDesk$Wrong;" } : Jvm.MethodName)) ∈ lw_tbl := lw_at lw_m6 49 rfl
theorem q1372 : (Jvm.Cond.instanceMethod ({ cls := "ExemptDesk$Reader", name := "wrong", desc := "(I)LExemptDesk$Wrong;" } : Jvm.MethodName)) ∈ lw_all := lw_g (lw_at lw_m6 50 rfl) rfl
theorem q1373 : (Jvm.Cond.code ({ cls := "ExemptDesk$Reader", name := "wrong", desc := "(I)LExemptDesk$Wrong;" } : Jvm.MethodName) prog_8_method_6_code (2 : Nat) (Option.some (Jvm.ClassFile.FieldType.object "ExemptDesk$Wrong"))) ∈ lw_all := lw_g (lw_at lw_m6 51 rfl) rfl
theorem q1374 : (Jvm.Cond.classLink "ExemptDesk$Reader" (70 : Nat) "ExemptDesk$Wrong") ∈ lw_all := lw_g (lw_at lw_m6 52 rfl) rfl
theorem q1383 : (Jvm.Cond.methodLink "ExemptDesk$Reader" (72 : Nat) ({ cls := "ExemptDesk$Wrong", name := "<init>", desc := "(II)V" } : Jvm.MethodName)) ∈ lw_all := lw_g (lw_at lw_m6 61 rfl) rfl
theorem q1402 : (Jvm.Cond.methodLink "ExemptDesk$Reader" (96 : Nat) ({ cls := "ExemptDesk$Reader", name := "newTrader", desc := "()V" } : Jvm.MethodName)) ∈ lw_all := lw_g (lw_at lw_m6 80 rfl) rfl
theorem q1403 : (Jvm.Cond.privateMethod ({ cls := "ExemptDesk$Reader", name := "newTrader", desc := "()V" } : Jvm.MethodName)) ∈ lw_tbl := lw_at lw_m6 81 rfl
theorem q1404 : (Jvm.Cond.instanceMethod ({ cls := "ExemptDesk$Reader", name := "newTrader", desc := "()V" } : Jvm.MethodName)) ∈ lw_all := lw_g (lw_at lw_m6 82 rfl) rfl
theorem q1405 : (Jvm.Cond.code ({ cls := "ExemptDesk$Reader", name := "newTrader", desc := "()V" } : Jvm.MethodName) prog_8_method_12_code (1 : Nat) (Option.none : Option Jvm.ClassFile.FieldType)) ∈ lw_all := lw_g (lw_at lw_m6 83 rfl) rfl
theorem q1406 : (Jvm.Cond.methodLink "ExemptDesk$Reader" (155 : Nat) ({ cls := "ExemptDesk$Text", name := "many", desc := "()I" } : Jvm.MethodName)) ∈ lw_all := lw_g (lw_at lw_m6 84 rfl) rfl
theorem q1407 : (Jvm.Cond.methodLink "ExemptDesk$Reader" (158 : Nat) ({ cls := "ExemptDesk$Text", name := "find", desc := "(I)I" } : Jvm.MethodName)) ∈ lw_all := lw_g (lw_at lw_m6 85 rfl) rfl
theorem q1416 : (Jvm.Cond.methodLink "ExemptDesk$Reader" (162 : Nat) ({ cls := "ExemptDesk$Reader", name := "goesOnAs", desc := "(Z)V" } : Jvm.MethodName)) ∈ lw_all := lw_g (lw_at lw_m6 94 rfl) rfl
theorem q1417 : (Jvm.Cond.privateMethod ({ cls := "ExemptDesk$Reader", name := "goesOnAs", desc := "(Z)V" } : Jvm.MethodName)) ∈ lw_tbl := lw_at lw_m6 95 rfl
theorem q1418 : (Jvm.Cond.instanceMethod ({ cls := "ExemptDesk$Reader", name := "goesOnAs", desc := "(Z)V" } : Jvm.MethodName)) ∈ lw_all := lw_g (lw_at lw_m6 96 rfl) rfl
theorem q1419 : (Jvm.Cond.code ({ cls := "ExemptDesk$Reader", name := "goesOnAs", desc := "(Z)V" } : Jvm.MethodName) prog_8_method_13_code (4 : Nat) (Option.none : Option Jvm.ClassFile.FieldType)) ∈ lw_all := lw_g (lw_at lw_m6 97 rfl) rfl
theorem q1420 : (Jvm.Cond.methodLink "ExemptDesk$Reader" (147 : Nat) ({ cls := "ExemptDesk$Reader", name := "goesOn", desc := "(Z)V" } : Jvm.MethodName)) ∈ lw_all := lw_g (lw_at lw_m6 98 rfl) rfl
theorem q1421 : (Jvm.Cond.privateMethod ({ cls := "ExemptDesk$Reader", name := "goesOn", desc := "(Z)V" } : Jvm.MethodName)) ∈ lw_tbl := lw_at lw_m6 99 rfl
theorem q1422 : (Jvm.Cond.instanceMethod ({ cls := "ExemptDesk$Reader", name := "goesOn", desc := "(Z)V" } : Jvm.MethodName)) ∈ lw_all := lw_g (lw_at lw_m6 100 rfl) rfl
theorem q1423 : (Jvm.Cond.code ({ cls := "ExemptDesk$Reader", name := "goesOn", desc := "(Z)V" } : Jvm.MethodName) prog_8_method_11_code (2 : Nat) (Option.none : Option Jvm.ClassFile.FieldType)) ∈ lw_all := lw_g (lw_at lw_m6 101 rfl) rfl
theorem q1424 : (Jvm.Cond.methodLink "ExemptDesk$Reader" (151 : Nat) ({ cls := "ExemptDesk$Reader", name := "number", desc := "(II)I" } : Jvm.MethodName)) ∈ lw_all := lw_g (lw_at lw_m6 102 rfl) rfl
theorem q1425 : (Jvm.Cond.privateMethod ({ cls := "ExemptDesk$Reader", name := "number", desc := "(II)I" } : Jvm.MethodName)) ∈ lw_tbl := lw_at lw_m6 103 rfl
theorem q1426 : (Jvm.Cond.instanceMethod ({ cls := "ExemptDesk$Reader", name := "number", desc := "(II)I" } : Jvm.MethodName)) ∈ lw_all := lw_g (lw_at lw_m6 104 rfl) rfl
theorem q1427 : (Jvm.Cond.code ({ cls := "ExemptDesk$Reader", name := "number", desc := "(II)I" } : Jvm.MethodName) prog_8_method_7_code (4 : Nat) (Option.some Jvm.ClassFile.FieldType.int)) ∈ lw_all := lw_g (lw_at lw_m6 105 rfl) rfl
theorem q1428 : (Jvm.Cond.classLink "ExemptDesk$Reader" (168 : Nat) "ExemptDesk$Trader") ∈ lw_all := lw_g (lw_at lw_m6 106 rfl) rfl
theorem q1430 : (Jvm.Cond.methodLink "ExemptDesk$Reader" (170 : Nat) ({ cls := "ExemptDesk$Trader", name := "<init>", desc := "(III)V" } : Jvm.MethodName)) ∈ lw_all := lw_g (lw_at lw_m6 108 rfl) rfl
theorem q1444 : (Jvm.Cond.fieldLinkNest "ExemptDesk$Reader" (180 : Nat) "ExemptDesk$Trader" "own" "I" "ExemptDesk") ∈ lw_tbl := lw_at lw_m6 122 rfl
theorem q1446 : (Jvm.Cond.fieldLinkNest "ExemptDesk$Reader" (183 : Nat) "ExemptDesk$Trader" "all" "I" "ExemptDesk") ∈ lw_tbl := lw_at lw_m6 124 rfl
theorem q1449 : (Jvm.Cond.fieldLinkNest "ExemptDesk$Reader" (186 : Nat) "ExemptDesk$Trader" "start" "I" "ExemptDesk") ∈ lw_tbl := lw_at lw_m6 127 rfl
theorem q1464 : (Jvm.Cond.methodLink "ExemptDesk$Reader" (134 : Nat) ({ cls := "java/util/LinkedList", name := "add", desc := "(Ljava/lang/Object;)Z" } : Jvm.MethodName)) ∈ lw_all := lw_g (lw_at lw_m6 142 rfl) rfl
theorem q1465 : (Jvm.Cond.methodLink "ExemptDesk$Reader" (99 : Nat) ({ cls := "ExemptDesk$Reader", name := "head", desc := "()V" } : Jvm.MethodName)) ∈ lw_all := lw_g (lw_at lw_m6 143 rfl) rfl
theorem q1466 : (Jvm.Cond.privateMethod ({ cls := "ExemptDesk$Reader", name := "head", desc := "()V" } : Jvm.MethodName)) ∈ lw_tbl := lw_at lw_m6 144 rfl
theorem q1467 : (Jvm.Cond.instanceMethod ({ cls := "ExemptDesk$Reader", name := "head", desc := "()V" } : Jvm.MethodName)) ∈ lw_all := lw_g (lw_at lw_m6 145 rfl) rfl
theorem q1468 : (Jvm.Cond.code ({ cls := "ExemptDesk$Reader", name := "head", desc := "()V" } : Jvm.MethodName) prog_8_method_15_code (3 : Nat) (Option.none : Option Jvm.ClassFile.FieldType)) ∈ lw_all := lw_g (lw_at lw_m6 146 rfl) rfl
theorem q1469 : (Jvm.Cond.methodLink "ExemptDesk$Reader" (173 : Nat) ({ cls := "ExemptDesk$Reader", name := "atHand", desc := "()I" } : Jvm.MethodName)) ∈ lw_all := lw_g (lw_at lw_m6 147 rfl) rfl
theorem q1470 : (Jvm.Cond.privateMethod ({ cls := "ExemptDesk$Reader", name := "atHand", desc := "()I" } : Jvm.MethodName)) ∈ lw_tbl := lw_at lw_m6 148 rfl
theorem q1471 : (Jvm.Cond.instanceMethod ({ cls := "ExemptDesk$Reader", name := "atHand", desc := "()I" } : Jvm.MethodName)) ∈ lw_all := lw_g (lw_at lw_m6 149 rfl) rfl
theorem q1472 : (Jvm.Cond.code ({ cls := "ExemptDesk$Reader", name := "atHand", desc := "()I" } : Jvm.MethodName) prog_8_method_14_code (2 : Nat) (Option.some Jvm.ClassFile.FieldType.int)) ∈ lw_all := lw_g (lw_at lw_m6 150 rfl) rfl
theorem q1473 : (Jvm.Cond.methodLink "ExemptDesk$Reader" (176 : Nat) ({ cls := "ExemptDesk$Text", name := "trader", desc := "(I)LExemptDesk$Trader;" } : Jvm.MethodName)) ∈ lw_all := lw_g (lw_at lw_m6 151 rfl) rfl
theorem q1474 : (Jvm.Cond.methodLink "ExemptDesk$Reader" (102 : Nat) ({ cls := "ExemptDesk$Reader", name := "start", desc := "()V" } : Jvm.MethodName)) ∈ lw_all := lw_g (lw_at lw_m6 152 rfl) rfl
theorem q1475 : (Jvm.Cond.privateMethod ({ cls := "ExemptDesk$Reader", name := "start", desc := "()V" } : Jvm.MethodName)) ∈ lw_tbl := lw_at lw_m6 153 rfl
theorem q1476 : (Jvm.Cond.instanceMethod ({ cls := "ExemptDesk$Reader", name := "start", desc := "()V" } : Jvm.MethodName)) ∈ lw_all := lw_g (lw_at lw_m6 154 rfl) rfl
theorem q1477 : (Jvm.Cond.code ({ cls := "ExemptDesk$Reader", name := "start", desc := "()V" } : Jvm.MethodName) prog_8_method_16_code (2 : Nat) (Option.none : Option Jvm.ClassFile.FieldType)) ∈ lw_all := lw_g (lw_at lw_m6 155 rfl) rfl
theorem q1478 : (Jvm.Cond.methodLink "ExemptDesk$Reader" (105 : Nat) ({ cls := "ExemptDesk$Reader", name := "round", desc := "()V" } : Jvm.MethodName)) ∈ lw_all := lw_g (lw_at lw_m6 156 rfl) rfl
theorem q1479 : (Jvm.Cond.privateMethod ({ cls := "ExemptDesk$Reader", name := "round", desc := "()V" } : Jvm.MethodName)) ∈ lw_tbl := lw_at lw_m6 157 rfl
theorem q1480 : (Jvm.Cond.instanceMethod ({ cls := "ExemptDesk$Reader", name := "round", desc := "()V" } : Jvm.MethodName)) ∈ lw_all := lw_g (lw_at lw_m6 158 rfl) rfl
theorem q1481 : (Jvm.Cond.code ({ cls := "ExemptDesk$Reader", name := "round", desc := "()V" } : Jvm.MethodName) prog_8_method_17_code (1 : Nat) (Option.none : Option Jvm.ClassFile.FieldType)) ∈ lw_all := lw_g (lw_at lw_m6 159 rfl) rfl
theorem q1482 : (Jvm.Cond.methodLink "ExemptDesk$Reader" (111 : Nat) ({ cls := "ExemptDesk$Reader", name := "once", desc := "(III)I" } : Jvm.MethodName)) ∈ lw_all := lw_g (lw_at lw_m6 160 rfl) rfl
theorem q1483 : (Jvm.Cond.privateMethod ({ cls := "ExemptDesk$Reader", name := "once", desc := "(III)I" } : Jvm.MethodName)) ∈ lw_tbl := lw_at lw_m6 161 rfl
theorem q1484 : (Jvm.Cond.instanceMethod ({ cls := "ExemptDesk$Reader", name := "once", desc := "(III)I" } : Jvm.MethodName)) ∈ lw_all := lw_g (lw_at lw_m6 162 rfl) rfl
theorem q1485 : (Jvm.Cond.code ({ cls := "ExemptDesk$Reader", name := "once", desc := "(III)I" } : Jvm.MethodName) prog_8_method_10_code (4 : Nat) (Option.some Jvm.ClassFile.FieldType.int)) ∈ lw_all := lw_g (lw_at lw_m6 163 rfl) rfl
theorem q1486 : (Jvm.Cond.methodLink "ExemptDesk$Reader" (125 : Nat) ({ cls := "java/util/LinkedList", name := "size", desc := "()I" } : Jvm.MethodName)) ∈ lw_all := lw_g (lw_at lw_m6 164 rfl) rfl
theorem q1487 : (Jvm.Cond.methodLink "ExemptDesk$Reader" (130 : Nat) ({ cls := "ExemptDesk$Reader", name := "told", desc := "(III)LExemptDesk$Told;" } : Jvm.MethodName)) ∈ lw_all := lw_g (lw_at lw_m6 165 rfl) rfl
theorem q1488 : (Jvm.Cond.privateMethod ({ cls := "ExemptDesk$Reader", name := "told", desc := "(III)LExemptDesk$Told;" } : Jvm.MethodName)) ∈ lw_tbl := lw_at lw_m6 166 rfl
theorem q1489 : (Jvm.Cond.instanceMethod ({ cls := "ExemptDesk$Reader", name := "told", desc := "(III)LExemptDesk$Told;" } : Jvm.MethodName)) ∈ lw_all := lw_g (lw_at lw_m6 167 rfl) rfl
theorem q1490 : (Jvm.Cond.code ({ cls := "ExemptDesk$Reader", name := "told", desc := "(III)LExemptDesk$Told;" } : Jvm.MethodName) prog_8_method_19_code (7 : Nat) (Option.some (Jvm.ClassFile.FieldType.object "ExemptDesk$Told"))) ∈ lw_all := lw_g (lw_at lw_m6 168 rfl) rfl
theorem q1491 : (Jvm.Cond.classLink "ExemptDesk$Reader" (201 : Nat) "ExemptDesk$Told") ∈ lw_all := lw_g (lw_at lw_m6 169 rfl) rfl
theorem q1493 : (Jvm.Cond.methodLink "ExemptDesk$Reader" (216 : Nat) ({ cls := "ExemptDesk$Told", name := "<init>", desc := "(IIII)V" } : Jvm.MethodName)) ∈ lw_all := lw_g (lw_at lw_m6 171 rfl) rfl
theorem q1501 : (Jvm.Cond.fieldLink "ExemptDesk$Reader" (200 : Nat) "ExemptDesk$Told" "trader" "I") ∈ lw_all := lw_g (lw_at lw_m6 179 rfl) rfl
theorem q1506 : (Jvm.Cond.fieldLink "ExemptDesk$Reader" (204 : Nat) "ExemptDesk$Told" "quarter" "I") ∈ lw_all := lw_g (lw_at lw_m6 184 rfl) rfl
theorem q1511 : (Jvm.Cond.fieldLink "ExemptDesk$Reader" (207 : Nat) "ExemptDesk$Told" "kind" "I") ∈ lw_all := lw_g (lw_at lw_m6 189 rfl) rfl
theorem q1516 : (Jvm.Cond.fieldLink "ExemptDesk$Reader" (210 : Nat) "ExemptDesk$Told" "amount" "I") ∈ lw_all := lw_g (lw_at lw_m6 194 rfl) rfl
theorem q1526 : (Jvm.Cond.methodLink "ExemptDesk$Reader" (141 : Nat) ({ cls := "ExemptDesk$Reader", name := "newAsset", desc := "()V" } : Jvm.MethodName)) ∈ lw_all := lw_g (lw_at lw_m6 204 rfl) rfl
theorem q1527 : (Jvm.Cond.privateMethod ({ cls := "ExemptDesk$Reader", name := "newAsset", desc := "()V" } : Jvm.MethodName)) ∈ lw_tbl := lw_at lw_m6 205 rfl
theorem q1528 : (Jvm.Cond.instanceMethod ({ cls := "ExemptDesk$Reader", name := "newAsset", desc := "()V" } : Jvm.MethodName)) ∈ lw_all := lw_g (lw_at lw_m6 206 rfl) rfl
theorem q1529 : (Jvm.Cond.code ({ cls := "ExemptDesk$Reader", name := "newAsset", desc := "()V" } : Jvm.MethodName) prog_8_method_18_code (2 : Nat) (Option.none : Option Jvm.ClassFile.FieldType)) ∈ lw_all := lw_g (lw_at lw_m6 207 rfl) rfl
theorem q1530 : (Jvm.Cond.methodLinkNest "ExemptDesk$Reader" (194 : Nat) ({ cls := "ExemptDesk", name := "isIntervals", desc := "(I)Z" } : Jvm.MethodName) "ExemptDesk") ∈ lw_tbl := lw_at lw_m6 208 rfl
theorem q1533 : (Jvm.Cond.classLink "ExemptDesk$Reader" (198 : Nat) "ExemptDesk$ToldAsset") ∈ lw_all := lw_g (lw_at lw_m6 211 rfl) rfl
theorem q1535 : (Jvm.Cond.methodLink "ExemptDesk$Reader" (213 : Nat) ({ cls := "ExemptDesk$ToldAsset", name := "<init>", desc := "(IIIII)V" } : Jvm.MethodName)) ∈ lw_all := lw_g (lw_at lw_m6 213 rfl) rfl
theorem q1548 : (Jvm.Cond.methodLink "ExemptDesk$Reader" (92 : Nat) ({ cls := "ExemptDesk$Text", name := "closed", desc := "()LExemptDesk$Text;" } : Jvm.MethodName)) ∈ lw_all := lw_g (lw_at lw_m6 226 rfl) rfl
theorem q2973 : (Jvm.Cond.castable "ExemptDesk$Reader" "java/lang/Object") ∈ lw_tbl := lw_at lw_m12 211 rfl

abbrev cX5_init : ByteArray := prog_10_method_1_code
def yX5_init : MethodName := ⟨RX5, "<init>", "()V"⟩
def dkwX5_init_2 : List UInt8 := [181, 0, 24, 42, 2, 181, 0, 27, 42, 2, 181, 0, 31, 42, 2, 181, 0, 34, 42, 2, 181, 0, 37, 177]
abbrev dktX5_init_2 : List UInt8 := dkwX5_init_2 ++ []
def dkwX5_init_1 : List UInt8 := [181, 0, 18, 42, 187, 0, 9, 89, 183, 0, 11, 181, 0, 21, 42, 187, 0, 9, 89, 183, 0, 11]
abbrev dktX5_init_1 : List UInt8 := dkwX5_init_1 ++ dktX5_init_2
def dkwX5_init_0 : List UInt8 := [42, 183, 0, 3, 42, 187, 0, 9, 89, 183, 0, 11, 181, 0, 12, 42, 187, 0, 9, 89, 183, 0, 11]
abbrev dktX5_init_0 : List UInt8 := dkwX5_init_0 ++ dktX5_init_1
theorem dksX5_init_0 : cX5_init.data.toList.drop 0 = dktX5_init_0 := by decide +kernel
theorem dksX5_init_1 : cX5_init.data.toList.drop 23 = dktX5_init_1 := dk_seg dksX5_init_0 23 rfl rfl
theorem dksX5_init_2 : cX5_init.data.toList.drop 45 = dktX5_init_2 := dk_seg dksX5_init_1 22 rfl rfl
theorem dX5_init_0 : decode cX5_init 0 = .ok (.aload_n 0, 1) := dk_42 (dk_at dksX5_init_0 0 rfl rfl)
theorem dX5_init_1 : decode cX5_init 1 = .ok (.invokespecial 3, 3) := dk_183 0 3 (dk_at dksX5_init_0 1 rfl rfl)
theorem dX5_init_4 : decode cX5_init 4 = .ok (.aload_n 0, 1) := dk_42 (dk_at dksX5_init_0 4 rfl rfl)
theorem dX5_init_5 : decode cX5_init 5 = .ok (.new 9, 3) := dk_187 0 9 (dk_at dksX5_init_0 5 rfl rfl)
theorem dX5_init_8 : decode cX5_init 8 = .ok (.dup, 1) := dk_89 (dk_at dksX5_init_0 8 rfl rfl)
theorem dX5_init_9 : decode cX5_init 9 = .ok (.invokespecial 11, 3) := dk_183 0 11 (dk_at dksX5_init_0 9 rfl rfl)
theorem dX5_init_12 : decode cX5_init 12 = .ok (.putfield 12, 3) := dk_181 0 12 (dk_at dksX5_init_0 12 rfl rfl)
theorem dX5_init_15 : decode cX5_init 15 = .ok (.aload_n 0, 1) := dk_42 (dk_at dksX5_init_0 15 rfl rfl)
theorem dX5_init_16 : decode cX5_init 16 = .ok (.new 9, 3) := dk_187 0 9 (dk_at dksX5_init_0 16 rfl rfl)
theorem dX5_init_19 : decode cX5_init 19 = .ok (.dup, 1) := dk_89 (dk_at dksX5_init_0 19 rfl rfl)
theorem dX5_init_20 : decode cX5_init 20 = .ok (.invokespecial 11, 3) := dk_183 0 11 (dk_at dksX5_init_0 20 rfl rfl)
theorem dX5_init_23 : decode cX5_init 23 = .ok (.putfield 18, 3) := dk_181 0 18 (dk_at dksX5_init_1 0 rfl rfl)
theorem dX5_init_26 : decode cX5_init 26 = .ok (.aload_n 0, 1) := dk_42 (dk_at dksX5_init_1 3 rfl rfl)
theorem dX5_init_27 : decode cX5_init 27 = .ok (.new 9, 3) := dk_187 0 9 (dk_at dksX5_init_1 4 rfl rfl)
theorem dX5_init_30 : decode cX5_init 30 = .ok (.dup, 1) := dk_89 (dk_at dksX5_init_1 7 rfl rfl)
theorem dX5_init_31 : decode cX5_init 31 = .ok (.invokespecial 11, 3) := dk_183 0 11 (dk_at dksX5_init_1 8 rfl rfl)
theorem dX5_init_34 : decode cX5_init 34 = .ok (.putfield 21, 3) := dk_181 0 21 (dk_at dksX5_init_1 11 rfl rfl)
theorem dX5_init_37 : decode cX5_init 37 = .ok (.aload_n 0, 1) := dk_42 (dk_at dksX5_init_1 14 rfl rfl)
theorem dX5_init_38 : decode cX5_init 38 = .ok (.new 9, 3) := dk_187 0 9 (dk_at dksX5_init_1 15 rfl rfl)
theorem dX5_init_41 : decode cX5_init 41 = .ok (.dup, 1) := dk_89 (dk_at dksX5_init_1 18 rfl rfl)
theorem dX5_init_42 : decode cX5_init 42 = .ok (.invokespecial 11, 3) := dk_183 0 11 (dk_at dksX5_init_1 19 rfl rfl)
theorem dX5_init_45 : decode cX5_init 45 = .ok (.putfield 24, 3) := dk_181 0 24 (dk_at dksX5_init_2 0 rfl rfl)
theorem dX5_init_48 : decode cX5_init 48 = .ok (.aload_n 0, 1) := dk_42 (dk_at dksX5_init_2 3 rfl rfl)
theorem dX5_init_49 : decode cX5_init 49 = .ok (.iconst (-1), 1) := dk_2 (dk_at dksX5_init_2 4 rfl rfl)
theorem dX5_init_50 : decode cX5_init 50 = .ok (.putfield 27, 3) := dk_181 0 27 (dk_at dksX5_init_2 5 rfl rfl)
theorem dX5_init_53 : decode cX5_init 53 = .ok (.aload_n 0, 1) := dk_42 (dk_at dksX5_init_2 8 rfl rfl)
theorem dX5_init_54 : decode cX5_init 54 = .ok (.iconst (-1), 1) := dk_2 (dk_at dksX5_init_2 9 rfl rfl)
theorem dX5_init_55 : decode cX5_init 55 = .ok (.putfield 31, 3) := dk_181 0 31 (dk_at dksX5_init_2 10 rfl rfl)
theorem dX5_init_58 : decode cX5_init 58 = .ok (.aload_n 0, 1) := dk_42 (dk_at dksX5_init_2 13 rfl rfl)
theorem dX5_init_59 : decode cX5_init 59 = .ok (.iconst (-1), 1) := dk_2 (dk_at dksX5_init_2 14 rfl rfl)
theorem dX5_init_60 : decode cX5_init 60 = .ok (.putfield 34, 3) := dk_181 0 34 (dk_at dksX5_init_2 15 rfl rfl)
theorem dX5_init_63 : decode cX5_init 63 = .ok (.aload_n 0, 1) := dk_42 (dk_at dksX5_init_2 18 rfl rfl)
theorem dX5_init_64 : decode cX5_init 64 = .ok (.iconst (-1), 1) := dk_2 (dk_at dksX5_init_2 19 rfl rfl)
theorem dX5_init_65 : decode cX5_init 65 = .ok (.putfield 37, 3) := dk_181 0 37 (dk_at dksX5_init_2 20 rfl rfl)
theorem dX5_init_68 : decode cX5_init 68 = .ok (.return_, 1) := dk_177 (dk_at dksX5_init_2 23 rfl rfl)
abbrev cX5_closed : ByteArray := prog_10_method_5_code
def yX5_closed : MethodName := ⟨RX5, "closed", "()LExemptDesk$Text;"⟩
def dkwX5_closed_2 : List UInt8 := [42, 180, 0, 37, 184, 0, 67, 181, 0, 37, 42, 176]
abbrev dktX5_closed_2 : List UInt8 := dkwX5_closed_2 ++ []
def dkwX5_closed_1 : List UInt8 := [167, 0, 7, 42, 180, 0, 31, 181, 0, 31, 42, 3, 42, 180, 0, 34, 184, 0, 67, 181, 0, 34, 42, 3]
abbrev dktX5_closed_1 : List UInt8 := dkwX5_closed_1 ++ dktX5_closed_2
def dkwX5_closed_0 : List UInt8 := [42, 3, 42, 180, 0, 27, 184, 0, 67, 181, 0, 27, 42, 42, 180, 0, 31, 2, 160, 0, 8, 16, 100]
abbrev dktX5_closed_0 : List UInt8 := dkwX5_closed_0 ++ dktX5_closed_1
theorem dksX5_closed_0 : cX5_closed.data.toList.drop 0 = dktX5_closed_0 := by decide +kernel
theorem dksX5_closed_1 : cX5_closed.data.toList.drop 23 = dktX5_closed_1 := dk_seg dksX5_closed_0 23 rfl rfl
theorem dksX5_closed_2 : cX5_closed.data.toList.drop 47 = dktX5_closed_2 := dk_seg dksX5_closed_1 24 rfl rfl
theorem dX5_closed_0 : decode cX5_closed 0 = .ok (.aload_n 0, 1) := dk_42 (dk_at dksX5_closed_0 0 rfl rfl)
theorem dX5_closed_1 : decode cX5_closed 1 = .ok (.iconst 0, 1) := dk_3 (dk_at dksX5_closed_0 1 rfl rfl)
theorem dX5_closed_2 : decode cX5_closed 2 = .ok (.aload_n 0, 1) := dk_42 (dk_at dksX5_closed_0 2 rfl rfl)
theorem dX5_closed_3 : decode cX5_closed 3 = .ok (.getfield 27, 3) := dk_180 0 27 (dk_at dksX5_closed_0 3 rfl rfl)
theorem dX5_closed_6 : decode cX5_closed 6 = .ok (.invokestatic 67, 3) := dk_184 0 67 (dk_at dksX5_closed_0 6 rfl rfl)
theorem dX5_closed_9 : decode cX5_closed 9 = .ok (.putfield 27, 3) := dk_181 0 27 (dk_at dksX5_closed_0 9 rfl rfl)
theorem dX5_closed_12 : decode cX5_closed 12 = .ok (.aload_n 0, 1) := dk_42 (dk_at dksX5_closed_0 12 rfl rfl)
theorem dX5_closed_13 : decode cX5_closed 13 = .ok (.aload_n 0, 1) := dk_42 (dk_at dksX5_closed_0 13 rfl rfl)
theorem dX5_closed_14 : decode cX5_closed 14 = .ok (.getfield 31, 3) := dk_180 0 31 (dk_at dksX5_closed_0 14 rfl rfl)
theorem dX5_closed_17 : decode cX5_closed 17 = .ok (.iconst (-1), 1) := dk_2 (dk_at dksX5_closed_0 17 rfl rfl)
theorem dX5_closed_18 : decode cX5_closed 18 = .ok (.if_icmp .ne 8, 3) := dk_160 0 8 (dk_at dksX5_closed_0 18 rfl rfl)
theorem dX5_closed_21 : decode cX5_closed 21 = .ok (.bipush 100, 2) := dk_16 100 (dk_at dksX5_closed_0 21 rfl rfl)
theorem dX5_closed_23 : decode cX5_closed 23 = .ok (.goto 7, 3) := dk_167 0 7 (dk_at dksX5_closed_1 0 rfl rfl)
theorem dX5_closed_26 : decode cX5_closed 26 = .ok (.aload_n 0, 1) := dk_42 (dk_at dksX5_closed_1 3 rfl rfl)
theorem dX5_closed_27 : decode cX5_closed 27 = .ok (.getfield 31, 3) := dk_180 0 31 (dk_at dksX5_closed_1 4 rfl rfl)
theorem dX5_closed_30 : decode cX5_closed 30 = .ok (.putfield 31, 3) := dk_181 0 31 (dk_at dksX5_closed_1 7 rfl rfl)
theorem dX5_closed_33 : decode cX5_closed 33 = .ok (.aload_n 0, 1) := dk_42 (dk_at dksX5_closed_1 10 rfl rfl)
theorem dX5_closed_34 : decode cX5_closed 34 = .ok (.iconst 0, 1) := dk_3 (dk_at dksX5_closed_1 11 rfl rfl)
theorem dX5_closed_35 : decode cX5_closed 35 = .ok (.aload_n 0, 1) := dk_42 (dk_at dksX5_closed_1 12 rfl rfl)
theorem dX5_closed_36 : decode cX5_closed 36 = .ok (.getfield 34, 3) := dk_180 0 34 (dk_at dksX5_closed_1 13 rfl rfl)
theorem dX5_closed_39 : decode cX5_closed 39 = .ok (.invokestatic 67, 3) := dk_184 0 67 (dk_at dksX5_closed_1 16 rfl rfl)
theorem dX5_closed_42 : decode cX5_closed 42 = .ok (.putfield 34, 3) := dk_181 0 34 (dk_at dksX5_closed_1 19 rfl rfl)
theorem dX5_closed_45 : decode cX5_closed 45 = .ok (.aload_n 0, 1) := dk_42 (dk_at dksX5_closed_1 22 rfl rfl)
theorem dX5_closed_46 : decode cX5_closed 46 = .ok (.iconst 0, 1) := dk_3 (dk_at dksX5_closed_1 23 rfl rfl)
theorem dX5_closed_47 : decode cX5_closed 47 = .ok (.aload_n 0, 1) := dk_42 (dk_at dksX5_closed_2 0 rfl rfl)
theorem dX5_closed_48 : decode cX5_closed 48 = .ok (.getfield 37, 3) := dk_180 0 37 (dk_at dksX5_closed_2 1 rfl rfl)
theorem dX5_closed_51 : decode cX5_closed 51 = .ok (.invokestatic 67, 3) := dk_184 0 67 (dk_at dksX5_closed_2 4 rfl rfl)
theorem dX5_closed_54 : decode cX5_closed 54 = .ok (.putfield 37, 3) := dk_181 0 37 (dk_at dksX5_closed_2 7 rfl rfl)
theorem dX5_closed_57 : decode cX5_closed 57 = .ok (.aload_n 0, 1) := dk_42 (dk_at dksX5_closed_2 10 rfl rfl)
theorem dX5_closed_58 : decode cX5_closed 58 = .ok (.areturn, 1) := dk_176 (dk_at dksX5_closed_2 11 rfl rfl)
abbrev cX5_many : ByteArray := prog_10_method_4_code
def yX5_many : MethodName := ⟨RX5, "many", "()I"⟩
def dkwX5_many_0 : List UInt8 := [42, 180, 0, 12, 182, 0, 63, 172]
abbrev dktX5_many_0 : List UInt8 := dkwX5_many_0 ++ []
theorem dksX5_many_0 : cX5_many.data.toList.drop 0 = dktX5_many_0 := by decide +kernel
theorem dX5_many_0 : decode cX5_many 0 = .ok (.aload_n 0, 1) := dk_42 (dk_at dksX5_many_0 0 rfl rfl)
theorem dX5_many_1 : decode cX5_many 1 = .ok (.getfield 12, 3) := dk_180 0 12 (dk_at dksX5_many_0 1 rfl rfl)
theorem dX5_many_4 : decode cX5_many 4 = .ok (.invokevirtual 63, 3) := dk_182 0 63 (dk_at dksX5_many_0 4 rfl rfl)
theorem dX5_many_7 : decode cX5_many 7 = .ok (.ireturn, 1) := dk_172 (dk_at dksX5_many_0 7 rfl rfl)
abbrev cX5_trader : ByteArray := prog_10_method_3_code
def yX5_trader : MethodName := ⟨RX5, "trader", "(I)LExemptDesk$Trader;"⟩
def dkwX5_trader_0 : List UInt8 := [42, 180, 0, 12, 27, 182, 0, 59, 192, 0, 54, 176]
abbrev dktX5_trader_0 : List UInt8 := dkwX5_trader_0 ++ []
theorem dksX5_trader_0 : cX5_trader.data.toList.drop 0 = dktX5_trader_0 := by decide +kernel
theorem dX5_trader_0 : decode cX5_trader 0 = .ok (.aload_n 0, 1) := dk_42 (dk_at dksX5_trader_0 0 rfl rfl)
theorem dX5_trader_1 : decode cX5_trader 1 = .ok (.getfield 12, 3) := dk_180 0 12 (dk_at dksX5_trader_0 1 rfl rfl)
theorem dX5_trader_4 : decode cX5_trader 4 = .ok (.iload_n 1, 1) := dk_27 (dk_at dksX5_trader_0 4 rfl rfl)
theorem dX5_trader_5 : decode cX5_trader 5 = .ok (.invokevirtual 59, 3) := dk_182 0 59 (dk_at dksX5_trader_0 5 rfl rfl)
theorem dX5_trader_8 : decode cX5_trader 8 = .ok (.checkcast 54, 3) := dk_192 0 54 (dk_at dksX5_trader_0 8 rfl rfl)
theorem dX5_trader_11 : decode cX5_trader 11 = .ok (.areturn, 1) := dk_176 (dk_at dksX5_trader_0 11 rfl rfl)
abbrev cX5_find : ByteArray := prog_10_method_2_code
def yX5_find : MethodName := ⟨RX5, "find", "(I)I"⟩
def dkwX5_find_2 : List UInt8 := [172]
abbrev dktX5_find_2 : List UInt8 := dkwX5_find_2 ++ []
def dkwX5_find_1 : List UInt8 := [185, 0, 50, 1, 0, 192, 0, 54, 180, 0, 56, 27, 160, 0, 5, 28, 172, 132, 2, 1, 167, 255, 226, 2]
abbrev dktX5_find_1 : List UInt8 := dkwX5_find_1 ++ dktX5_find_2
def dkwX5_find_0 : List UInt8 := [3, 61, 42, 180, 0, 12, 182, 0, 40, 78, 45, 185, 0, 44, 1, 0, 153, 0, 27, 45]
abbrev dktX5_find_0 : List UInt8 := dkwX5_find_0 ++ dktX5_find_1
theorem dksX5_find_0 : cX5_find.data.toList.drop 0 = dktX5_find_0 := by decide +kernel
theorem dksX5_find_1 : cX5_find.data.toList.drop 20 = dktX5_find_1 := dk_seg dksX5_find_0 20 rfl rfl
theorem dksX5_find_2 : cX5_find.data.toList.drop 44 = dktX5_find_2 := dk_seg dksX5_find_1 24 rfl rfl
theorem dX5_find_0 : decode cX5_find 0 = .ok (.iconst 0, 1) := dk_3 (dk_at dksX5_find_0 0 rfl rfl)
theorem dX5_find_1 : decode cX5_find 1 = .ok (.istore_n 2, 1) := dk_61 (dk_at dksX5_find_0 1 rfl rfl)
theorem dX5_find_2 : decode cX5_find 2 = .ok (.aload_n 0, 1) := dk_42 (dk_at dksX5_find_0 2 rfl rfl)
theorem dX5_find_3 : decode cX5_find 3 = .ok (.getfield 12, 3) := dk_180 0 12 (dk_at dksX5_find_0 3 rfl rfl)
theorem dX5_find_6 : decode cX5_find 6 = .ok (.invokevirtual 40, 3) := dk_182 0 40 (dk_at dksX5_find_0 6 rfl rfl)
theorem dX5_find_9 : decode cX5_find 9 = .ok (.astore_n 3, 1) := dk_78 (dk_at dksX5_find_0 9 rfl rfl)
theorem dX5_find_10 : decode cX5_find 10 = .ok (.aload_n 3, 1) := dk_45 (dk_at dksX5_find_0 10 rfl rfl)
theorem dX5_find_11 : decode cX5_find 11 = .ok (.invokeinterface 44 1, 5) := by decide +kernel
theorem dX5_find_16 : decode cX5_find 16 = .ok (.ifCond .eq 27, 3) := dk_153 0 27 (dk_at dksX5_find_0 16 rfl rfl)
theorem dX5_find_19 : decode cX5_find 19 = .ok (.aload_n 3, 1) := dk_45 (dk_at dksX5_find_0 19 rfl rfl)
theorem dX5_find_20 : decode cX5_find 20 = .ok (.invokeinterface 50 1, 5) := by decide +kernel
theorem dX5_find_25 : decode cX5_find 25 = .ok (.checkcast 54, 3) := dk_192 0 54 (dk_at dksX5_find_1 5 rfl rfl)
theorem dX5_find_28 : decode cX5_find 28 = .ok (.getfield 56, 3) := dk_180 0 56 (dk_at dksX5_find_1 8 rfl rfl)
theorem dX5_find_31 : decode cX5_find 31 = .ok (.iload_n 1, 1) := dk_27 (dk_at dksX5_find_1 11 rfl rfl)
theorem dX5_find_32 : decode cX5_find 32 = .ok (.if_icmp .ne 5, 3) := dk_160 0 5 (dk_at dksX5_find_1 12 rfl rfl)
theorem dX5_find_35 : decode cX5_find 35 = .ok (.iload_n 2, 1) := dk_28 (dk_at dksX5_find_1 15 rfl rfl)
theorem dX5_find_36 : decode cX5_find 36 = .ok (.ireturn, 1) := dk_172 (dk_at dksX5_find_1 16 rfl rfl)
theorem dX5_find_37 : decode cX5_find 37 = .ok (.iinc 2 1, 3) := dk_132 2 1 (dk_at dksX5_find_1 17 rfl rfl)
theorem dX5_find_40 : decode cX5_find 40 = .ok (.goto (-30), 3) := dk_167 255 226 (dk_at dksX5_find_1 20 rfl rfl)
theorem dX5_find_43 : decode cX5_find 43 = .ok (.iconst (-1), 1) := dk_2 (dk_at dksX5_find_1 23 rfl rfl)
theorem dX5_find_44 : decode cX5_find 44 = .ok (.ireturn, 1) := dk_172 (dk_at dksX5_find_2 0 rfl rfl)
theorem q136 : (Jvm.Cond.initialized "ExemptDesk$Text") ∈ lw_all := lw_g (lw_at lw_m1 14 rfl) rfl
theorem q224 : (Jvm.Cond.selects "ExemptDesk$Text" ({ cls := "java/lang/Object", name := "getClass", desc := "()Ljava/lang/Class;" } : Jvm.MethodName) ({ cls := "java/lang/Object", name := "getClass", desc := "()Ljava/lang/Class;" } : Jvm.MethodName)) ∈ lw_all := lw_g (lw_at lw_m1 102 rfl) rfl
theorem q350 : (Jvm.Cond.instantiable "ExemptDesk$Text" (9 : Nat)) ∈ lw_all := lw_g (lw_at lw_m1 228 rfl) rfl
theorem q352 : (Jvm.Cond.instanceMethod ({ cls := "ExemptDesk$Text", name := "<init>", desc := "()V" } : Jvm.MethodName)) ∈ lw_all := lw_g (lw_at lw_m1 230 rfl) rfl
theorem q353 : (Jvm.Cond.code ({ cls := "ExemptDesk$Text", name := "<init>", desc := "()V" } : Jvm.MethodName) prog_10_method_1_code (1 : Nat) (Option.none : Option Jvm.ClassFile.FieldType)) ∈ lw_all := lw_g (lw_at lw_m1 231 rfl) rfl
theorem q354 : (Jvm.Cond.methodLink "ExemptDesk$Text" (3 : Nat) ({ cls := "java/lang/Object", name := "<init>", desc := "()V" } : Jvm.MethodName)) ∈ lw_all := lw_g (lw_at lw_m1 232 rfl) rfl
theorem q355 : (Jvm.Cond.classLink "ExemptDesk$Text" (9 : Nat) "java/util/LinkedList") ∈ lw_all := lw_g (lw_at lw_m1 233 rfl) rfl
theorem q357 : (Jvm.Cond.methodLink "ExemptDesk$Text" (11 : Nat) ({ cls := "java/util/LinkedList", name := "<init>", desc := "()V" } : Jvm.MethodName)) ∈ lw_all := lw_g (lw_at lw_m1 235 rfl) rfl
theorem q385 : (Jvm.Cond.fieldLink "ExemptDesk$Text" (12 : Nat) "ExemptDesk$Text" "traders" "Ljava/util/LinkedList;") ∈ lw_all := lw_g (lw_at lw_m2 23 rfl) rfl
theorem q387 : (Jvm.Cond.fieldLink "ExemptDesk$Text" (18 : Nat) "ExemptDesk$Text" "sales" "Ljava/util/LinkedList;") ∈ lw_all := lw_g (lw_at lw_m2 25 rfl) rfl
theorem q391 : (Jvm.Cond.fieldLink "ExemptDesk$Text" (21 : Nat) "ExemptDesk$Text" "buys" "Ljava/util/LinkedList;") ∈ lw_all := lw_g (lw_at lw_m2 29 rfl) rfl
theorem q395 : (Jvm.Cond.fieldLink "ExemptDesk$Text" (24 : Nat) "ExemptDesk$Text" "assets" "Ljava/util/LinkedList;") ∈ lw_all := lw_g (lw_at lw_m2 33 rfl) rfl
theorem q399 : (Jvm.Cond.fieldLink "ExemptDesk$Text" (27 : Nat) "ExemptDesk$Text" "way" "I") ∈ lw_all := lw_g (lw_at lw_m2 37 rfl) rfl
theorem q403 : (Jvm.Cond.fieldLink "ExemptDesk$Text" (31 : Nat) "ExemptDesk$Text" "step" "I") ∈ lw_all := lw_g (lw_at lw_m2 41 rfl) rfl
theorem q407 : (Jvm.Cond.fieldLink "ExemptDesk$Text" (34 : Nat) "ExemptDesk$Text" "limit" "I") ∈ lw_all := lw_g (lw_at lw_m2 45 rfl) rfl
theorem q411 : (Jvm.Cond.fieldLink "ExemptDesk$Text" (37 : Nat) "ExemptDesk$Text" "seed" "I") ∈ lw_all := lw_g (lw_at lw_m2 49 rfl) rfl
theorem q416 : (Jvm.Cond.laysFinal "ExemptDesk$Text" "ExemptDesk$Text" "traders" "Ljava/util/LinkedList;") ∈ lw_all := lw_g (lw_at lw_m2 54 rfl) rfl
theorem q417 : (Jvm.Cond.soleField "ExemptDesk$Text" "traders") ∈ lw_all := lw_g (lw_at lw_m2 55 rfl) rfl
theorem q418 : (Jvm.Cond.laysFinal "ExemptDesk$Text" "ExemptDesk$Text" "sales" "Ljava/util/LinkedList;") ∈ lw_all := lw_g (lw_at lw_m2 56 rfl) rfl
theorem q419 : (Jvm.Cond.soleField "ExemptDesk$Text" "sales") ∈ lw_all := lw_g (lw_at lw_m2 57 rfl) rfl
theorem q420 : (Jvm.Cond.laysFinal "ExemptDesk$Text" "ExemptDesk$Text" "buys" "Ljava/util/LinkedList;") ∈ lw_all := lw_g (lw_at lw_m2 58 rfl) rfl
theorem q421 : (Jvm.Cond.soleField "ExemptDesk$Text" "buys") ∈ lw_all := lw_g (lw_at lw_m2 59 rfl) rfl
theorem q422 : (Jvm.Cond.laysFinal "ExemptDesk$Text" "ExemptDesk$Text" "assets" "Ljava/util/LinkedList;") ∈ lw_all := lw_g (lw_at lw_m2 60 rfl) rfl
theorem q423 : (Jvm.Cond.soleField "ExemptDesk$Text" "assets") ∈ lw_all := lw_g (lw_at lw_m2 61 rfl) rfl
theorem q424 : (Jvm.Cond.lays "ExemptDesk$Text" "ExemptDesk$Text" "way" "I") ∈ lw_all := lw_g (lw_at lw_m2 62 rfl) rfl
theorem q425 : (Jvm.Cond.soleField "ExemptDesk$Text" "way") ∈ lw_all := lw_g (lw_at lw_m2 63 rfl) rfl
theorem q426 : (Jvm.Cond.lays "ExemptDesk$Text" "ExemptDesk$Text" "step" "I") ∈ lw_all := lw_g (lw_at lw_m2 64 rfl) rfl
theorem q427 : (Jvm.Cond.soleField "ExemptDesk$Text" "step") ∈ lw_all := lw_g (lw_at lw_m2 65 rfl) rfl
theorem q428 : (Jvm.Cond.lays "ExemptDesk$Text" "ExemptDesk$Text" "limit" "I") ∈ lw_all := lw_g (lw_at lw_m2 66 rfl) rfl
theorem q429 : (Jvm.Cond.soleField "ExemptDesk$Text" "limit") ∈ lw_all := lw_g (lw_at lw_m2 67 rfl) rfl
theorem q430 : (Jvm.Cond.lays "ExemptDesk$Text" "ExemptDesk$Text" "seed" "I") ∈ lw_all := lw_g (lw_at lw_m2 68 rfl) rfl
theorem q431 : (Jvm.Cond.soleField "ExemptDesk$Text" "seed") ∈ lw_all := lw_g (lw_at lw_m2 69 rfl) rfl
theorem q432 : (Jvm.Cond.lays "ExemptDesk$Text" "ExemptDesk$Text" "lines" "I") ∈ lw_all := lw_g (lw_at lw_m2 70 rfl) rfl
theorem q433 : (Jvm.Cond.soleField "ExemptDesk$Text" "lines") ∈ lw_all := lw_g (lw_at lw_m2 71 rfl) rfl
theorem q434 : (Jvm.Cond.superclass "ExemptDesk$Text" "java/lang/Object") ∈ lw_all := lw_g (lw_at lw_m2 72 rfl) rfl
theorem q436 : (Jvm.Cond.instanceMethod ({ cls := "ExemptDesk$Text", name := "closed", desc := "()LExemptDesk$Text;" } : Jvm.MethodName)) ∈ lw_all := lw_g (lw_at lw_m2 74 rfl) rfl
theorem q437 : (Jvm.Cond.selects "ExemptDesk$Text" ({ cls := "ExemptDesk$Text", name := "closed", desc := "()LExemptDesk$Text;" } : Jvm.MethodName) ({ cls := "ExemptDesk$Text", name := "closed", desc := "()LExemptDesk$Text;" } : Jvm.MethodName)) ∈ lw_all := lw_g (lw_at lw_m2 75 rfl) rfl
theorem q438 : (Jvm.Cond.code ({ cls := "ExemptDesk$Text", name := "closed", desc := "()LExemptDesk$Text;" } : Jvm.MethodName) prog_10_method_5_code (1 : Nat) (Option.some (Jvm.ClassFile.FieldType.object "ExemptDesk$Text"))) ∈ lw_all := lw_g (lw_at lw_m2 76 rfl) rfl
theorem q439 : (Jvm.Cond.methodLink "ExemptDesk$Text" (67 : Nat) ({ cls := "java/lang/Math", name := "max", desc := "(II)I" } : Jvm.MethodName)) ∈ lw_all := lw_g (lw_at lw_m2 77 rfl) rfl
theorem q580 : (Jvm.Cond.instanceMethod ({ cls := "ExemptDesk$Text", name := "many", desc := "()I" } : Jvm.MethodName)) ∈ lw_all := lw_g (lw_at lw_m2 218 rfl) rfl
theorem q581 : (Jvm.Cond.selects "ExemptDesk$Text" ({ cls := "ExemptDesk$Text", name := "many", desc := "()I" } : Jvm.MethodName) ({ cls := "ExemptDesk$Text", name := "many", desc := "()I" } : Jvm.MethodName)) ∈ lw_all := lw_g (lw_at lw_m2 219 rfl) rfl
theorem q582 : (Jvm.Cond.code ({ cls := "ExemptDesk$Text", name := "many", desc := "()I" } : Jvm.MethodName) prog_10_method_4_code (1 : Nat) (Option.some Jvm.ClassFile.FieldType.int)) ∈ lw_all := lw_g (lw_at lw_m2 220 rfl) rfl
theorem q583 : (Jvm.Cond.methodLink "ExemptDesk$Text" (63 : Nat) ({ cls := "java/util/LinkedList", name := "size", desc := "()I" } : Jvm.MethodName)) ∈ lw_all := lw_g (lw_at lw_m2 221 rfl) rfl
theorem q588 : (Jvm.Cond.instanceMethod ({ cls := "ExemptDesk$Text", name := "trader", desc := "(I)LExemptDesk$Trader;" } : Jvm.MethodName)) ∈ lw_all := lw_g (lw_at lw_m2 226 rfl) rfl
theorem q589 : (Jvm.Cond.selects "ExemptDesk$Text" ({ cls := "ExemptDesk$Text", name := "trader", desc := "(I)LExemptDesk$Trader;" } : Jvm.MethodName) ({ cls := "ExemptDesk$Text", name := "trader", desc := "(I)LExemptDesk$Trader;" } : Jvm.MethodName)) ∈ lw_all := lw_g (lw_at lw_m2 227 rfl) rfl
theorem q590 : (Jvm.Cond.code ({ cls := "ExemptDesk$Text", name := "trader", desc := "(I)LExemptDesk$Trader;" } : Jvm.MethodName) prog_10_method_3_code (2 : Nat) (Option.some (Jvm.ClassFile.FieldType.object "ExemptDesk$Trader"))) ∈ lw_all := lw_g (lw_at lw_m2 228 rfl) rfl
theorem q591 : (Jvm.Cond.methodLink "ExemptDesk$Text" (59 : Nat) ({ cls := "java/util/LinkedList", name := "get", desc := "(I)Ljava/lang/Object;" } : Jvm.MethodName)) ∈ lw_all := lw_g (lw_at lw_m2 229 rfl) rfl
theorem q916 : (Jvm.Cond.classLink "ExemptDesk$Text" (54 : Nat) "ExemptDesk$Trader") ∈ lw_all := lw_g (lw_at lw_m4 74 rfl) rfl
theorem q1408 : (Jvm.Cond.instanceMethod ({ cls := "ExemptDesk$Text", name := "find", desc := "(I)I" } : Jvm.MethodName)) ∈ lw_all := lw_g (lw_at lw_m6 86 rfl) rfl
theorem q1409 : (Jvm.Cond.selects "ExemptDesk$Text" ({ cls := "ExemptDesk$Text", name := "find", desc := "(I)I" } : Jvm.MethodName) ({ cls := "ExemptDesk$Text", name := "find", desc := "(I)I" } : Jvm.MethodName)) ∈ lw_all := lw_g (lw_at lw_m6 87 rfl) rfl
theorem q1410 : (Jvm.Cond.code ({ cls := "ExemptDesk$Text", name := "find", desc := "(I)I" } : Jvm.MethodName) prog_10_method_2_code (4 : Nat) (Option.some Jvm.ClassFile.FieldType.int)) ∈ lw_all := lw_g (lw_at lw_m6 88 rfl) rfl
theorem q1411 : (Jvm.Cond.methodLink "ExemptDesk$Text" (40 : Nat) ({ cls := "java/util/LinkedList", name := "iterator", desc := "()Ljava/util/Iterator;" } : Jvm.MethodName)) ∈ lw_all := lw_g (lw_at lw_m6 89 rfl) rfl
theorem q1412 : (Jvm.Cond.interfaceEntry "ExemptDesk$Text" (44 : Nat)) ∈ lw_tbl := lw_at lw_m6 90 rfl
theorem q1413 : (Jvm.Cond.methodLink "ExemptDesk$Text" (44 : Nat) ({ cls := "java/util/Iterator", name := "hasNext", desc := "()Z" } : Jvm.MethodName)) ∈ lw_all := lw_g (lw_at lw_m6 91 rfl) rfl
theorem q1414 : (Jvm.Cond.interfaceEntry "ExemptDesk$Text" (50 : Nat)) ∈ lw_tbl := lw_at lw_m6 92 rfl
theorem q1415 : (Jvm.Cond.methodLink "ExemptDesk$Text" (50 : Nat) ({ cls := "java/util/Iterator", name := "next", desc := "()Ljava/lang/Object;" } : Jvm.MethodName)) ∈ lw_all := lw_g (lw_at lw_m6 93 rfl) rfl
theorem q1435 : (Jvm.Cond.fieldLinkNest "ExemptDesk$Text" (56 : Nat) "ExemptDesk$Trader" "name" "I" "ExemptDesk") ∈ lw_tbl := lw_at lw_m6 113 rfl
theorem q2974 : (Jvm.Cond.castable "ExemptDesk$Text" "java/lang/Object") ∈ lw_tbl := lw_at lw_m12 212 rfl

abbrev cX7_init : ByteArray := prog_9_method_1_code
def yX7_init : MethodName := ⟨RX7, "<init>", "()V"⟩
def dkwX7_init_0 : List UInt8 := [42, 183, 0, 3, 42, 8, 188, 11, 181, 0, 9, 177]
abbrev dktX7_init_0 : List UInt8 := dkwX7_init_0 ++ []
theorem dksX7_init_0 : cX7_init.data.toList.drop 0 = dktX7_init_0 := by decide +kernel
theorem dX7_init_0 : decode cX7_init 0 = .ok (.aload_n 0, 1) := dk_42 (dk_at dksX7_init_0 0 rfl rfl)
theorem dX7_init_1 : decode cX7_init 1 = .ok (.invokespecial 3, 3) := dk_183 0 3 (dk_at dksX7_init_0 1 rfl rfl)
theorem dX7_init_4 : decode cX7_init 4 = .ok (.aload_n 0, 1) := dk_42 (dk_at dksX7_init_0 4 rfl rfl)
theorem dX7_init_5 : decode cX7_init 5 = .ok (.iconst 5, 1) := dk_8 (dk_at dksX7_init_0 5 rfl rfl)
theorem dX7_init_6 : decode cX7_init 6 = .ok (.newarray .long, 2) := dk_188_11 (dk_at dksX7_init_0 6 rfl rfl)
theorem dX7_init_8 : decode cX7_init 8 = .ok (.putfield 9, 3) := dk_181 0 9 (dk_at dksX7_init_0 8 rfl rfl)
theorem dX7_init_11 : decode cX7_init 11 = .ok (.return_, 1) := dk_177 (dk_at dksX7_init_0 11 rfl rfl)
abbrev cX7_be : ByteArray := prog_9_method_4_code
def yX7_be : MethodName := ⟨RX7, "be", "(LExemptDesk$Sums;)V"⟩
def dkwX7_be_1 : List UInt8 := [167, 255, 236, 177]
abbrev dktX7_be_1 : List UInt8 := dkwX7_be_1 ++ []
def dkwX7_be_0 : List UInt8 := [3, 61, 28, 8, 162, 0, 21, 42, 180, 0, 9, 28, 43, 180, 0, 9, 28, 47, 80, 132, 2, 1]
abbrev dktX7_be_0 : List UInt8 := dkwX7_be_0 ++ dktX7_be_1
theorem dksX7_be_0 : cX7_be.data.toList.drop 0 = dktX7_be_0 := by decide +kernel
theorem dksX7_be_1 : cX7_be.data.toList.drop 22 = dktX7_be_1 := dk_seg dksX7_be_0 22 rfl rfl
theorem dX7_be_0 : decode cX7_be 0 = .ok (.iconst 0, 1) := dk_3 (dk_at dksX7_be_0 0 rfl rfl)
theorem dX7_be_1 : decode cX7_be 1 = .ok (.istore_n 2, 1) := dk_61 (dk_at dksX7_be_0 1 rfl rfl)
theorem dX7_be_2 : decode cX7_be 2 = .ok (.iload_n 2, 1) := dk_28 (dk_at dksX7_be_0 2 rfl rfl)
theorem dX7_be_3 : decode cX7_be 3 = .ok (.iconst 5, 1) := dk_8 (dk_at dksX7_be_0 3 rfl rfl)
theorem dX7_be_4 : decode cX7_be 4 = .ok (.if_icmp .ge 21, 3) := dk_162 0 21 (dk_at dksX7_be_0 4 rfl rfl)
theorem dX7_be_7 : decode cX7_be 7 = .ok (.aload_n 0, 1) := dk_42 (dk_at dksX7_be_0 7 rfl rfl)
theorem dX7_be_8 : decode cX7_be 8 = .ok (.getfield 9, 3) := dk_180 0 9 (dk_at dksX7_be_0 8 rfl rfl)
theorem dX7_be_11 : decode cX7_be 11 = .ok (.iload_n 2, 1) := dk_28 (dk_at dksX7_be_0 11 rfl rfl)
theorem dX7_be_12 : decode cX7_be 12 = .ok (.aload_n 1, 1) := dk_43 (dk_at dksX7_be_0 12 rfl rfl)
theorem dX7_be_13 : decode cX7_be 13 = .ok (.getfield 9, 3) := dk_180 0 9 (dk_at dksX7_be_0 13 rfl rfl)
theorem dX7_be_16 : decode cX7_be 16 = .ok (.iload_n 2, 1) := dk_28 (dk_at dksX7_be_0 16 rfl rfl)
theorem dX7_be_17 : decode cX7_be 17 = .ok (.laload, 1) := dk_47 (dk_at dksX7_be_0 17 rfl rfl)
theorem dX7_be_18 : decode cX7_be 18 = .ok (.lastore, 1) := dk_80 (dk_at dksX7_be_0 18 rfl rfl)
theorem dX7_be_19 : decode cX7_be 19 = .ok (.iinc 2 1, 3) := dk_132 2 1 (dk_at dksX7_be_0 19 rfl rfl)
theorem dX7_be_22 : decode cX7_be 22 = .ok (.goto (-20), 3) := dk_167 255 236 (dk_at dksX7_be_1 0 rfl rfl)
theorem dX7_be_25 : decode cX7_be 25 = .ok (.return_, 1) := dk_177 (dk_at dksX7_be_1 3 rfl rfl)
abbrev cX7_back : ByteArray := prog_9_method_8_code
def yX7_back : MethodName := ⟨RX7, "back", "(IILExemptDesk$Way;I)I"⟩
def dkwX7_back_1 : List UInt8 := [167, 0, 5, 22, 5, 136, 172]
abbrev dktX7_back_1 : List UInt8 := dkwX7_back_1 ++ []
def dkwX7_back_0 : List UInt8 := [42, 27, 28, 45, 182, 0, 27, 55, 5, 42, 22, 5, 21, 4, 182, 0, 31, 153, 0, 10, 42, 182, 0, 21]
abbrev dktX7_back_0 : List UInt8 := dkwX7_back_0 ++ dktX7_back_1
theorem dksX7_back_0 : cX7_back.data.toList.drop 0 = dktX7_back_0 := by decide +kernel
theorem dksX7_back_1 : cX7_back.data.toList.drop 24 = dktX7_back_1 := dk_seg dksX7_back_0 24 rfl rfl
theorem dX7_back_0 : decode cX7_back 0 = .ok (.aload_n 0, 1) := dk_42 (dk_at dksX7_back_0 0 rfl rfl)
theorem dX7_back_1 : decode cX7_back 1 = .ok (.iload_n 1, 1) := dk_27 (dk_at dksX7_back_0 1 rfl rfl)
theorem dX7_back_2 : decode cX7_back 2 = .ok (.iload_n 2, 1) := dk_28 (dk_at dksX7_back_0 2 rfl rfl)
theorem dX7_back_3 : decode cX7_back 3 = .ok (.aload_n 3, 1) := dk_45 (dk_at dksX7_back_0 3 rfl rfl)
theorem dX7_back_4 : decode cX7_back 4 = .ok (.invokevirtual 27, 3) := dk_182 0 27 (dk_at dksX7_back_0 4 rfl rfl)
theorem dX7_back_7 : decode cX7_back 7 = .ok (.lstore 5, 2) := dk_55 5 (dk_at dksX7_back_0 7 rfl rfl)
theorem dX7_back_9 : decode cX7_back 9 = .ok (.aload_n 0, 1) := dk_42 (dk_at dksX7_back_0 9 rfl rfl)
theorem dX7_back_10 : decode cX7_back 10 = .ok (.lload 5, 2) := dk_22 5 (dk_at dksX7_back_0 10 rfl rfl)
theorem dX7_back_12 : decode cX7_back 12 = .ok (.iload 4, 2) := dk_21 4 (dk_at dksX7_back_0 12 rfl rfl)
theorem dX7_back_14 : decode cX7_back 14 = .ok (.invokevirtual 31, 3) := dk_182 0 31 (dk_at dksX7_back_0 14 rfl rfl)
theorem dX7_back_17 : decode cX7_back 17 = .ok (.ifCond .eq 10, 3) := dk_153 0 10 (dk_at dksX7_back_0 17 rfl rfl)
theorem dX7_back_20 : decode cX7_back 20 = .ok (.aload_n 0, 1) := dk_42 (dk_at dksX7_back_0 20 rfl rfl)
theorem dX7_back_21 : decode cX7_back 21 = .ok (.invokevirtual 21, 3) := dk_182 0 21 (dk_at dksX7_back_0 21 rfl rfl)
theorem dX7_back_24 : decode cX7_back 24 = .ok (.goto 5, 3) := dk_167 0 5 (dk_at dksX7_back_1 0 rfl rfl)
theorem dX7_back_27 : decode cX7_back 27 = .ok (.lload 5, 2) := dk_22 5 (dk_at dksX7_back_1 3 rfl rfl)
theorem dX7_back_29 : decode cX7_back 29 = .ok (.l2i, 1) := dk_136 (dk_at dksX7_back_1 5 rfl rfl)
theorem dX7_back_30 : decode cX7_back 30 = .ok (.ireturn, 1) := dk_172 (dk_at dksX7_back_1 6 rfl rfl)
abbrev cX7_backPlain : ByteArray := prog_9_method_6_code
def yX7_backPlain : MethodName := ⟨RX7, "backPlain", "(IILExemptDesk$Way;)J"⟩
def dkwX7_backPlain_0 : List UInt8 := [42, 180, 0, 9, 5, 47, 45, 42, 180, 0, 9, 7, 47, 27, 133, 105, 28, 133, 182, 0, 15, 133, 97, 173]
abbrev dktX7_backPlain_0 : List UInt8 := dkwX7_backPlain_0 ++ []
theorem dksX7_backPlain_0 : cX7_backPlain.data.toList.drop 0 = dktX7_backPlain_0 := by decide +kernel
theorem dX7_backPlain_0 : decode cX7_backPlain 0 = .ok (.aload_n 0, 1) := dk_42 (dk_at dksX7_backPlain_0 0 rfl rfl)
theorem dX7_backPlain_1 : decode cX7_backPlain 1 = .ok (.getfield 9, 3) := dk_180 0 9 (dk_at dksX7_backPlain_0 1 rfl rfl)
theorem dX7_backPlain_4 : decode cX7_backPlain 4 = .ok (.iconst 2, 1) := dk_5 (dk_at dksX7_backPlain_0 4 rfl rfl)
theorem dX7_backPlain_5 : decode cX7_backPlain 5 = .ok (.laload, 1) := dk_47 (dk_at dksX7_backPlain_0 5 rfl rfl)
theorem dX7_backPlain_6 : decode cX7_backPlain 6 = .ok (.aload_n 3, 1) := dk_45 (dk_at dksX7_backPlain_0 6 rfl rfl)
theorem dX7_backPlain_7 : decode cX7_backPlain 7 = .ok (.aload_n 0, 1) := dk_42 (dk_at dksX7_backPlain_0 7 rfl rfl)
theorem dX7_backPlain_8 : decode cX7_backPlain 8 = .ok (.getfield 9, 3) := dk_180 0 9 (dk_at dksX7_backPlain_0 8 rfl rfl)
theorem dX7_backPlain_11 : decode cX7_backPlain 11 = .ok (.iconst 4, 1) := dk_7 (dk_at dksX7_backPlain_0 11 rfl rfl)
theorem dX7_backPlain_12 : decode cX7_backPlain 12 = .ok (.laload, 1) := dk_47 (dk_at dksX7_backPlain_0 12 rfl rfl)
theorem dX7_backPlain_13 : decode cX7_backPlain 13 = .ok (.iload_n 1, 1) := dk_27 (dk_at dksX7_backPlain_0 13 rfl rfl)
theorem dX7_backPlain_14 : decode cX7_backPlain 14 = .ok (.i2l, 1) := dk_133 (dk_at dksX7_backPlain_0 14 rfl rfl)
theorem dX7_backPlain_15 : decode cX7_backPlain 15 = .ok (.lmul, 1) := dk_105 (dk_at dksX7_backPlain_0 15 rfl rfl)
theorem dX7_backPlain_16 : decode cX7_backPlain 16 = .ok (.iload_n 2, 1) := dk_28 (dk_at dksX7_backPlain_0 16 rfl rfl)
theorem dX7_backPlain_17 : decode cX7_backPlain 17 = .ok (.i2l, 1) := dk_133 (dk_at dksX7_backPlain_0 17 rfl rfl)
theorem dX7_backPlain_18 : decode cX7_backPlain 18 = .ok (.invokevirtual 15, 3) := dk_182 0 15 (dk_at dksX7_backPlain_0 18 rfl rfl)
theorem dX7_backPlain_21 : decode cX7_backPlain 21 = .ok (.i2l, 1) := dk_133 (dk_at dksX7_backPlain_0 21 rfl rfl)
theorem dX7_backPlain_22 : decode cX7_backPlain 22 = .ok (.ladd, 1) := dk_97 (dk_at dksX7_backPlain_0 22 rfl rfl)
theorem dX7_backPlain_23 : decode cX7_backPlain 23 = .ok (.lreturn, 1) := dk_173 (dk_at dksX7_backPlain_0 23 rfl rfl)
abbrev cX7_isSmall : ByteArray := prog_9_method_7_code
def yX7_isSmall : MethodName := ⟨RX7, "isSmall", "(JI)Z"⟩
def dkwX7_isSmall_1 : List UInt8 := [182, 0, 21, 148, 157, 0, 7, 4, 167, 0, 4, 3, 172]
abbrev dktX7_isSmall_1 : List UInt8 := dkwX7_isSmall_1 ++ []
def dkwX7_isSmall_0 : List UInt8 := [42, 182, 0, 21, 31, 101, 29, 133, 148, 157, 0, 25, 20, 0, 25, 42, 182, 0, 21, 31, 101, 105, 42]
abbrev dktX7_isSmall_0 : List UInt8 := dkwX7_isSmall_0 ++ dktX7_isSmall_1
theorem dksX7_isSmall_0 : cX7_isSmall.data.toList.drop 0 = dktX7_isSmall_0 := by decide +kernel
theorem dksX7_isSmall_1 : cX7_isSmall.data.toList.drop 23 = dktX7_isSmall_1 := dk_seg dksX7_isSmall_0 23 rfl rfl
theorem dX7_isSmall_0 : decode cX7_isSmall 0 = .ok (.aload_n 0, 1) := dk_42 (dk_at dksX7_isSmall_0 0 rfl rfl)
theorem dX7_isSmall_1 : decode cX7_isSmall 1 = .ok (.invokevirtual 21, 3) := dk_182 0 21 (dk_at dksX7_isSmall_0 1 rfl rfl)
theorem dX7_isSmall_4 : decode cX7_isSmall 4 = .ok (.lload_n 1, 1) := dk_31 (dk_at dksX7_isSmall_0 4 rfl rfl)
theorem dX7_isSmall_5 : decode cX7_isSmall 5 = .ok (.lsub, 1) := dk_101 (dk_at dksX7_isSmall_0 5 rfl rfl)
theorem dX7_isSmall_6 : decode cX7_isSmall 6 = .ok (.iload_n 3, 1) := dk_29 (dk_at dksX7_isSmall_0 6 rfl rfl)
theorem dX7_isSmall_7 : decode cX7_isSmall 7 = .ok (.i2l, 1) := dk_133 (dk_at dksX7_isSmall_0 7 rfl rfl)
theorem dX7_isSmall_8 : decode cX7_isSmall 8 = .ok (.lcmp, 1) := dk_148 (dk_at dksX7_isSmall_0 8 rfl rfl)
theorem dX7_isSmall_9 : decode cX7_isSmall 9 = .ok (.ifCond .gt 25, 3) := dk_157 0 25 (dk_at dksX7_isSmall_0 9 rfl rfl)
theorem dX7_isSmall_12 : decode cX7_isSmall 12 = .ok (.ldc2_w 25, 3) := dk_20 0 25 (dk_at dksX7_isSmall_0 12 rfl rfl)
theorem dX7_isSmall_15 : decode cX7_isSmall 15 = .ok (.aload_n 0, 1) := dk_42 (dk_at dksX7_isSmall_0 15 rfl rfl)
theorem dX7_isSmall_16 : decode cX7_isSmall 16 = .ok (.invokevirtual 21, 3) := dk_182 0 21 (dk_at dksX7_isSmall_0 16 rfl rfl)
theorem dX7_isSmall_19 : decode cX7_isSmall 19 = .ok (.lload_n 1, 1) := dk_31 (dk_at dksX7_isSmall_0 19 rfl rfl)
theorem dX7_isSmall_20 : decode cX7_isSmall 20 = .ok (.lsub, 1) := dk_101 (dk_at dksX7_isSmall_0 20 rfl rfl)
theorem dX7_isSmall_21 : decode cX7_isSmall 21 = .ok (.lmul, 1) := dk_105 (dk_at dksX7_isSmall_0 21 rfl rfl)
theorem dX7_isSmall_22 : decode cX7_isSmall 22 = .ok (.aload_n 0, 1) := dk_42 (dk_at dksX7_isSmall_0 22 rfl rfl)
theorem dX7_isSmall_23 : decode cX7_isSmall 23 = .ok (.invokevirtual 21, 3) := dk_182 0 21 (dk_at dksX7_isSmall_1 0 rfl rfl)
theorem dX7_isSmall_26 : decode cX7_isSmall 26 = .ok (.lcmp, 1) := dk_148 (dk_at dksX7_isSmall_1 3 rfl rfl)
theorem dX7_isSmall_27 : decode cX7_isSmall 27 = .ok (.ifCond .gt 7, 3) := dk_157 0 7 (dk_at dksX7_isSmall_1 4 rfl rfl)
theorem dX7_isSmall_30 : decode cX7_isSmall 30 = .ok (.iconst 1, 1) := dk_4 (dk_at dksX7_isSmall_1 7 rfl rfl)
theorem dX7_isSmall_31 : decode cX7_isSmall 31 = .ok (.goto 4, 3) := dk_167 0 4 (dk_at dksX7_isSmall_1 8 rfl rfl)
theorem dX7_isSmall_34 : decode cX7_isSmall 34 = .ok (.iconst 0, 1) := dk_3 (dk_at dksX7_isSmall_1 11 rfl rfl)
theorem dX7_isSmall_35 : decode cX7_isSmall 35 = .ok (.ireturn, 1) := dk_172 (dk_at dksX7_isSmall_1 12 rfl rfl)
abbrev cX7_tax : ByteArray := prog_9_method_5_code
def yX7_tax : MethodName := ⟨RX7, "tax", "()J"⟩
def dkwX7_tax_0 : List UInt8 := [42, 180, 0, 9, 5, 47, 42, 180, 0, 9, 6, 47, 97, 42, 180, 0, 9, 7, 47, 97, 173]
abbrev dktX7_tax_0 : List UInt8 := dkwX7_tax_0 ++ []
theorem dksX7_tax_0 : cX7_tax.data.toList.drop 0 = dktX7_tax_0 := by decide +kernel
theorem dX7_tax_0 : decode cX7_tax 0 = .ok (.aload_n 0, 1) := dk_42 (dk_at dksX7_tax_0 0 rfl rfl)
theorem dX7_tax_1 : decode cX7_tax 1 = .ok (.getfield 9, 3) := dk_180 0 9 (dk_at dksX7_tax_0 1 rfl rfl)
theorem dX7_tax_4 : decode cX7_tax 4 = .ok (.iconst 2, 1) := dk_5 (dk_at dksX7_tax_0 4 rfl rfl)
theorem dX7_tax_5 : decode cX7_tax 5 = .ok (.laload, 1) := dk_47 (dk_at dksX7_tax_0 5 rfl rfl)
theorem dX7_tax_6 : decode cX7_tax 6 = .ok (.aload_n 0, 1) := dk_42 (dk_at dksX7_tax_0 6 rfl rfl)
theorem dX7_tax_7 : decode cX7_tax 7 = .ok (.getfield 9, 3) := dk_180 0 9 (dk_at dksX7_tax_0 7 rfl rfl)
theorem dX7_tax_10 : decode cX7_tax 10 = .ok (.iconst 3, 1) := dk_6 (dk_at dksX7_tax_0 10 rfl rfl)
theorem dX7_tax_11 : decode cX7_tax 11 = .ok (.laload, 1) := dk_47 (dk_at dksX7_tax_0 11 rfl rfl)
theorem dX7_tax_12 : decode cX7_tax 12 = .ok (.ladd, 1) := dk_97 (dk_at dksX7_tax_0 12 rfl rfl)
theorem dX7_tax_13 : decode cX7_tax 13 = .ok (.aload_n 0, 1) := dk_42 (dk_at dksX7_tax_0 13 rfl rfl)
theorem dX7_tax_14 : decode cX7_tax 14 = .ok (.getfield 9, 3) := dk_180 0 9 (dk_at dksX7_tax_0 14 rfl rfl)
theorem dX7_tax_17 : decode cX7_tax 17 = .ok (.iconst 4, 1) := dk_7 (dk_at dksX7_tax_0 17 rfl rfl)
theorem dX7_tax_18 : decode cX7_tax 18 = .ok (.laload, 1) := dk_47 (dk_at dksX7_tax_0 18 rfl rfl)
theorem dX7_tax_19 : decode cX7_tax 19 = .ok (.ladd, 1) := dk_97 (dk_at dksX7_tax_0 19 rfl rfl)
theorem dX7_tax_20 : decode cX7_tax 20 = .ok (.lreturn, 1) := dk_173 (dk_at dksX7_tax_0 20 rfl rfl)
abbrev cX7_clear : ByteArray := prog_9_method_2_code
def yX7_clear : MethodName := ⟨RX7, "clear", "()V"⟩
def dkwX7_clear_0 : List UInt8 := [3, 60, 27, 8, 162, 0, 16, 42, 180, 0, 9, 27, 9, 80, 132, 1, 1, 167, 255, 241, 177]
abbrev dktX7_clear_0 : List UInt8 := dkwX7_clear_0 ++ []
theorem dksX7_clear_0 : cX7_clear.data.toList.drop 0 = dktX7_clear_0 := by decide +kernel
theorem dX7_clear_0 : decode cX7_clear 0 = .ok (.iconst 0, 1) := dk_3 (dk_at dksX7_clear_0 0 rfl rfl)
theorem dX7_clear_1 : decode cX7_clear 1 = .ok (.istore_n 1, 1) := dk_60 (dk_at dksX7_clear_0 1 rfl rfl)
theorem dX7_clear_2 : decode cX7_clear 2 = .ok (.iload_n 1, 1) := dk_27 (dk_at dksX7_clear_0 2 rfl rfl)
theorem dX7_clear_3 : decode cX7_clear 3 = .ok (.iconst 5, 1) := dk_8 (dk_at dksX7_clear_0 3 rfl rfl)
theorem dX7_clear_4 : decode cX7_clear 4 = .ok (.if_icmp .ge 16, 3) := dk_162 0 16 (dk_at dksX7_clear_0 4 rfl rfl)
theorem dX7_clear_7 : decode cX7_clear 7 = .ok (.aload_n 0, 1) := dk_42 (dk_at dksX7_clear_0 7 rfl rfl)
theorem dX7_clear_8 : decode cX7_clear 8 = .ok (.getfield 9, 3) := dk_180 0 9 (dk_at dksX7_clear_0 8 rfl rfl)
theorem dX7_clear_11 : decode cX7_clear 11 = .ok (.iload_n 1, 1) := dk_27 (dk_at dksX7_clear_0 11 rfl rfl)
theorem dX7_clear_12 : decode cX7_clear 12 = .ok (.lconst 0, 1) := dk_9 (dk_at dksX7_clear_0 12 rfl rfl)
theorem dX7_clear_13 : decode cX7_clear 13 = .ok (.lastore, 1) := dk_80 (dk_at dksX7_clear_0 13 rfl rfl)
theorem dX7_clear_14 : decode cX7_clear 14 = .ok (.iinc 1 1, 3) := dk_132 1 1 (dk_at dksX7_clear_0 14 rfl rfl)
theorem dX7_clear_17 : decode cX7_clear 17 = .ok (.goto (-15), 3) := dk_167 255 241 (dk_at dksX7_clear_0 17 rfl rfl)
theorem dX7_clear_20 : decode cX7_clear 20 = .ok (.return_, 1) := dk_177 (dk_at dksX7_clear_0 20 rfl rfl)
abbrev cX7_add : ByteArray := prog_9_method_3_code
def yX7_add : MethodName := ⟨RX7, "add", "(LExemptDesk$Sums;)V"⟩
def dkwX7_add_1 : List UInt8 := [132, 2, 1, 167, 255, 233, 177]
abbrev dktX7_add_1 : List UInt8 := dkwX7_add_1 ++ []
def dkwX7_add_0 : List UInt8 := [3, 61, 28, 8, 162, 0, 24, 42, 180, 0, 9, 28, 92, 47, 43, 180, 0, 9, 28, 47, 97, 80]
abbrev dktX7_add_0 : List UInt8 := dkwX7_add_0 ++ dktX7_add_1
theorem dksX7_add_0 : cX7_add.data.toList.drop 0 = dktX7_add_0 := by decide +kernel
theorem dksX7_add_1 : cX7_add.data.toList.drop 22 = dktX7_add_1 := dk_seg dksX7_add_0 22 rfl rfl
theorem dX7_add_0 : decode cX7_add 0 = .ok (.iconst 0, 1) := dk_3 (dk_at dksX7_add_0 0 rfl rfl)
theorem dX7_add_1 : decode cX7_add 1 = .ok (.istore_n 2, 1) := dk_61 (dk_at dksX7_add_0 1 rfl rfl)
theorem dX7_add_2 : decode cX7_add 2 = .ok (.iload_n 2, 1) := dk_28 (dk_at dksX7_add_0 2 rfl rfl)
theorem dX7_add_3 : decode cX7_add 3 = .ok (.iconst 5, 1) := dk_8 (dk_at dksX7_add_0 3 rfl rfl)
theorem dX7_add_4 : decode cX7_add 4 = .ok (.if_icmp .ge 24, 3) := dk_162 0 24 (dk_at dksX7_add_0 4 rfl rfl)
theorem dX7_add_7 : decode cX7_add 7 = .ok (.aload_n 0, 1) := dk_42 (dk_at dksX7_add_0 7 rfl rfl)
theorem dX7_add_8 : decode cX7_add 8 = .ok (.getfield 9, 3) := dk_180 0 9 (dk_at dksX7_add_0 8 rfl rfl)
theorem dX7_add_11 : decode cX7_add 11 = .ok (.iload_n 2, 1) := dk_28 (dk_at dksX7_add_0 11 rfl rfl)
theorem dX7_add_12 : decode cX7_add 12 = .ok (.dup2, 1) := dk_92 (dk_at dksX7_add_0 12 rfl rfl)
theorem dX7_add_13 : decode cX7_add 13 = .ok (.laload, 1) := dk_47 (dk_at dksX7_add_0 13 rfl rfl)
theorem dX7_add_14 : decode cX7_add 14 = .ok (.aload_n 1, 1) := dk_43 (dk_at dksX7_add_0 14 rfl rfl)
theorem dX7_add_15 : decode cX7_add 15 = .ok (.getfield 9, 3) := dk_180 0 9 (dk_at dksX7_add_0 15 rfl rfl)
theorem dX7_add_18 : decode cX7_add 18 = .ok (.iload_n 2, 1) := dk_28 (dk_at dksX7_add_0 18 rfl rfl)
theorem dX7_add_19 : decode cX7_add 19 = .ok (.laload, 1) := dk_47 (dk_at dksX7_add_0 19 rfl rfl)
theorem dX7_add_20 : decode cX7_add 20 = .ok (.ladd, 1) := dk_97 (dk_at dksX7_add_0 20 rfl rfl)
theorem dX7_add_21 : decode cX7_add 21 = .ok (.lastore, 1) := dk_80 (dk_at dksX7_add_0 21 rfl rfl)
theorem dX7_add_22 : decode cX7_add 22 = .ok (.iinc 2 1, 3) := dk_132 2 1 (dk_at dksX7_add_1 0 rfl rfl)
theorem dX7_add_25 : decode cX7_add 25 = .ok (.goto (-23), 3) := dk_167 255 233 (dk_at dksX7_add_1 3 rfl rfl)
theorem dX7_add_28 : decode cX7_add 28 = .ok (.return_, 1) := dk_177 (dk_at dksX7_add_1 6 rfl rfl)
theorem q143 : (Jvm.Cond.initialized "ExemptDesk$Sums") ∈ lw_all := lw_g (lw_at lw_m1 21 rfl) rfl
theorem q223 : (Jvm.Cond.selects "ExemptDesk$Sums" ({ cls := "java/lang/Object", name := "getClass", desc := "()Ljava/lang/Class;" } : Jvm.MethodName) ({ cls := "java/lang/Object", name := "getClass", desc := "()Ljava/lang/Class;" } : Jvm.MethodName)) ∈ lw_all := lw_g (lw_at lw_m1 101 rfl) rfl
theorem q501 : (Jvm.Cond.instantiable "ExemptDesk$Sums" (1 : Nat)) ∈ lw_all := lw_g (lw_at lw_m2 139 rfl) rfl
theorem q503 : (Jvm.Cond.instanceMethod ({ cls := "ExemptDesk$Sums", name := "<init>", desc := "()V" } : Jvm.MethodName)) ∈ lw_all := lw_g (lw_at lw_m2 141 rfl) rfl
theorem q504 : (Jvm.Cond.code ({ cls := "ExemptDesk$Sums", name := "<init>", desc := "()V" } : Jvm.MethodName) prog_9_method_1_code (1 : Nat) (Option.none : Option Jvm.ClassFile.FieldType)) ∈ lw_all := lw_g (lw_at lw_m2 142 rfl) rfl
theorem q505 : (Jvm.Cond.methodLink "ExemptDesk$Sums" (3 : Nat) ({ cls := "java/lang/Object", name := "<init>", desc := "()V" } : Jvm.MethodName)) ∈ lw_all := lw_g (lw_at lw_m2 143 rfl) rfl
theorem q506 : (Jvm.Cond.fieldLink "ExemptDesk$Sums" (9 : Nat) "ExemptDesk$Sums" "of" "[J") ∈ lw_all := lw_g (lw_at lw_m2 144 rfl) rfl
theorem q510 : (Jvm.Cond.laysFinal "ExemptDesk$Sums" "ExemptDesk$Sums" "of" "[J") ∈ lw_all := lw_g (lw_at lw_m2 148 rfl) rfl
theorem q511 : (Jvm.Cond.soleField "ExemptDesk$Sums" "of") ∈ lw_all := lw_g (lw_at lw_m2 149 rfl) rfl
theorem q512 : (Jvm.Cond.superclass "ExemptDesk$Sums" "java/lang/Object") ∈ lw_all := lw_g (lw_at lw_m2 150 rfl) rfl
theorem q1673 : (Jvm.Cond.instanceMethod ({ cls := "ExemptDesk$Sums", name := "be", desc := "(LExemptDesk$Sums;)V" } : Jvm.MethodName)) ∈ lw_all := lw_g (lw_at lw_m7 111 rfl) rfl
theorem q1674 : (Jvm.Cond.selects "ExemptDesk$Sums" ({ cls := "ExemptDesk$Sums", name := "be", desc := "(LExemptDesk$Sums;)V" } : Jvm.MethodName) ({ cls := "ExemptDesk$Sums", name := "be", desc := "(LExemptDesk$Sums;)V" } : Jvm.MethodName)) ∈ lw_all := lw_g (lw_at lw_m7 112 rfl) rfl
theorem q1675 : (Jvm.Cond.code ({ cls := "ExemptDesk$Sums", name := "be", desc := "(LExemptDesk$Sums;)V" } : Jvm.MethodName) prog_9_method_4_code (3 : Nat) (Option.none : Option Jvm.ClassFile.FieldType)) ∈ lw_all := lw_g (lw_at lw_m7 113 rfl) rfl
theorem q1859 : (Jvm.Cond.instanceMethod ({ cls := "ExemptDesk$Sums", name := "back", desc := "(IILExemptDesk$Way;I)I" } : Jvm.MethodName)) ∈ lw_all := lw_g (lw_at lw_m8 57 rfl) rfl
theorem q1860 : (Jvm.Cond.selects "ExemptDesk$Sums" ({ cls := "ExemptDesk$Sums", name := "back", desc := "(IILExemptDesk$Way;I)I" } : Jvm.MethodName) ({ cls := "ExemptDesk$Sums", name := "back", desc := "(IILExemptDesk$Way;I)I" } : Jvm.MethodName)) ∈ lw_all := lw_g (lw_at lw_m8 58 rfl) rfl
theorem q1861 : (Jvm.Cond.code ({ cls := "ExemptDesk$Sums", name := "back", desc := "(IILExemptDesk$Way;I)I" } : Jvm.MethodName) prog_9_method_8_code (7 : Nat) (Option.some Jvm.ClassFile.FieldType.int)) ∈ lw_all := lw_g (lw_at lw_m8 59 rfl) rfl
theorem q1862 : (Jvm.Cond.methodLink "ExemptDesk$Sums" (27 : Nat) ({ cls := "ExemptDesk$Sums", name := "backPlain", desc := "(IILExemptDesk$Way;)J" } : Jvm.MethodName)) ∈ lw_all := lw_g (lw_at lw_m8 60 rfl) rfl
theorem q1863 : (Jvm.Cond.instanceMethod ({ cls := "ExemptDesk$Sums", name := "backPlain", desc := "(IILExemptDesk$Way;)J" } : Jvm.MethodName)) ∈ lw_all := lw_g (lw_at lw_m8 61 rfl) rfl
theorem q1864 : (Jvm.Cond.selects "ExemptDesk$Sums" ({ cls := "ExemptDesk$Sums", name := "backPlain", desc := "(IILExemptDesk$Way;)J" } : Jvm.MethodName) ({ cls := "ExemptDesk$Sums", name := "backPlain", desc := "(IILExemptDesk$Way;)J" } : Jvm.MethodName)) ∈ lw_all := lw_g (lw_at lw_m8 62 rfl) rfl
theorem q1865 : (Jvm.Cond.code ({ cls := "ExemptDesk$Sums", name := "backPlain", desc := "(IILExemptDesk$Way;)J" } : Jvm.MethodName) prog_9_method_6_code (4 : Nat) (Option.some Jvm.ClassFile.FieldType.long)) ∈ lw_all := lw_g (lw_at lw_m8 63 rfl) rfl
theorem q1866 : (Jvm.Cond.methodLink "ExemptDesk$Sums" (15 : Nat) ({ cls := "ExemptDesk$Way", name := "cut", desc := "(JJ)I" } : Jvm.MethodName)) ∈ lw_all := lw_g (lw_at lw_m8 64 rfl) rfl
theorem q1867 : (Jvm.Cond.methodLink "ExemptDesk$Sums" (31 : Nat) ({ cls := "ExemptDesk$Sums", name := "isSmall", desc := "(JI)Z" } : Jvm.MethodName)) ∈ lw_all := lw_g (lw_at lw_m8 65 rfl) rfl
theorem q1868 : (Jvm.Cond.instanceMethod ({ cls := "ExemptDesk$Sums", name := "isSmall", desc := "(JI)Z" } : Jvm.MethodName)) ∈ lw_all := lw_g (lw_at lw_m8 66 rfl) rfl
theorem q1869 : (Jvm.Cond.selects "ExemptDesk$Sums" ({ cls := "ExemptDesk$Sums", name := "isSmall", desc := "(JI)Z" } : Jvm.MethodName) ({ cls := "ExemptDesk$Sums", name := "isSmall", desc := "(JI)Z" } : Jvm.MethodName)) ∈ lw_all := lw_g (lw_at lw_m8 67 rfl) rfl
theorem q1870 : (Jvm.Cond.code ({ cls := "ExemptDesk$Sums", name := "isSmall", desc := "(JI)Z" } : Jvm.MethodName) prog_9_method_7_code (4 : Nat) (Option.some Jvm.ClassFile.FieldType.boolean)) ∈ lw_all := lw_g (lw_at lw_m8 68 rfl) rfl
theorem q1871 : (Jvm.Cond.methodLink "ExemptDesk$Sums" (21 : Nat) ({ cls := "ExemptDesk$Sums", name := "tax", desc := "()J" } : Jvm.MethodName)) ∈ lw_all := lw_g (lw_at lw_m8 69 rfl) rfl
theorem q1872 : (Jvm.Cond.instanceMethod ({ cls := "ExemptDesk$Sums", name := "tax", desc := "()J" } : Jvm.MethodName)) ∈ lw_all := lw_g (lw_at lw_m8 70 rfl) rfl
theorem q1873 : (Jvm.Cond.selects "ExemptDesk$Sums" ({ cls := "ExemptDesk$Sums", name := "tax", desc := "()J" } : Jvm.MethodName) ({ cls := "ExemptDesk$Sums", name := "tax", desc := "()J" } : Jvm.MethodName)) ∈ lw_all := lw_g (lw_at lw_m8 71 rfl) rfl
theorem q1874 : (Jvm.Cond.code ({ cls := "ExemptDesk$Sums", name := "tax", desc := "()J" } : Jvm.MethodName) prog_9_method_5_code (1 : Nat) (Option.some Jvm.ClassFile.FieldType.long)) ∈ lw_all := lw_g (lw_at lw_m8 72 rfl) rfl
theorem q1875 : (Jvm.Cond.constantLong "ExemptDesk$Sums" (25 : Nat) (2 : Int64)) ∈ lw_all := lw_g (lw_at lw_m8 73 rfl) rfl
theorem q1931 : (Jvm.Cond.instanceMethod ({ cls := "ExemptDesk$Sums", name := "clear", desc := "()V" } : Jvm.MethodName)) ∈ lw_all := lw_g (lw_at lw_m8 129 rfl) rfl
theorem q1932 : (Jvm.Cond.selects "ExemptDesk$Sums" ({ cls := "ExemptDesk$Sums", name := "clear", desc := "()V" } : Jvm.MethodName) ({ cls := "ExemptDesk$Sums", name := "clear", desc := "()V" } : Jvm.MethodName)) ∈ lw_all := lw_g (lw_at lw_m8 130 rfl) rfl
theorem q1933 : (Jvm.Cond.code ({ cls := "ExemptDesk$Sums", name := "clear", desc := "()V" } : Jvm.MethodName) prog_9_method_2_code (2 : Nat) (Option.none : Option Jvm.ClassFile.FieldType)) ∈ lw_all := lw_g (lw_at lw_m8 131 rfl) rfl
theorem q1935 : (Jvm.Cond.instanceMethod ({ cls := "ExemptDesk$Sums", name := "add", desc := "(LExemptDesk$Sums;)V" } : Jvm.MethodName)) ∈ lw_all := lw_g (lw_at lw_m8 133 rfl) rfl
theorem q1936 : (Jvm.Cond.selects "ExemptDesk$Sums" ({ cls := "ExemptDesk$Sums", name := "add", desc := "(LExemptDesk$Sums;)V" } : Jvm.MethodName) ({ cls := "ExemptDesk$Sums", name := "add", desc := "(LExemptDesk$Sums;)V" } : Jvm.MethodName)) ∈ lw_all := lw_g (lw_at lw_m8 134 rfl) rfl
theorem q1937 : (Jvm.Cond.code ({ cls := "ExemptDesk$Sums", name := "add", desc := "(LExemptDesk$Sums;)V" } : Jvm.MethodName) prog_9_method_3_code (3 : Nat) (Option.none : Option Jvm.ClassFile.FieldType)) ∈ lw_all := lw_g (lw_at lw_m8 135 rfl) rfl
theorem q2966 : (Jvm.Cond.castable "ExemptDesk$Sums" "java/lang/Object") ∈ lw_tbl := lw_at lw_m12 204 rfl

abbrev cX8_init : ByteArray := prog_2_method_1_code
def yX8_init : MethodName := ⟨RX8, "<init>", "(IIIIII)V"⟩
def dkwX8_init_4 : List UInt8 := [7, 108, 181, 0, 56, 42, 180, 0, 9, 42, 180, 0, 56, 28, 79, 177]
abbrev dktX8_init_4 : List UInt8 := dkwX8_init_4 ++ []
def dkwX8_init_3 : List UInt8 := [181, 0, 44, 42, 21, 4, 181, 0, 47, 42, 21, 5, 181, 0, 50, 42, 21, 6, 181, 0, 53, 42, 21, 6]
abbrev dktX8_init_3 : List UInt8 := dkwX8_init_3 ++ dktX8_init_4
def dkwX8_init_2 : List UInt8 := [181, 0, 32, 42, 7, 188, 10, 181, 0, 35, 42, 27, 181, 0, 38, 42, 28, 181, 0, 41, 42, 29]
abbrev dktX8_init_2 : List UInt8 := dkwX8_init_2 ++ dktX8_init_3
def dkwX8_init_1 : List UInt8 := [188, 10, 181, 0, 18, 42, 2, 181, 0, 21, 42, 2, 181, 0, 25, 42, 2, 181, 0, 28, 42, 18, 31]
abbrev dktX8_init_1 : List UInt8 := dkwX8_init_1 ++ dktX8_init_2
def dkwX8_init_0 : List UInt8 := [42, 183, 0, 3, 42, 16, 16, 188, 10, 181, 0, 9, 42, 16, 16, 188, 10, 181, 0, 15, 42, 16, 16]
abbrev dktX8_init_0 : List UInt8 := dkwX8_init_0 ++ dktX8_init_1
theorem dksX8_init_0 : cX8_init.data.toList.drop 0 = dktX8_init_0 := by decide +kernel
theorem dksX8_init_1 : cX8_init.data.toList.drop 23 = dktX8_init_1 := dk_seg dksX8_init_0 23 rfl rfl
theorem dksX8_init_2 : cX8_init.data.toList.drop 46 = dktX8_init_2 := dk_seg dksX8_init_1 23 rfl rfl
theorem dksX8_init_3 : cX8_init.data.toList.drop 68 = dktX8_init_3 := dk_seg dksX8_init_2 22 rfl rfl
theorem dksX8_init_4 : cX8_init.data.toList.drop 92 = dktX8_init_4 := dk_seg dksX8_init_3 24 rfl rfl
theorem dX8_init_0 : decode cX8_init 0 = .ok (.aload_n 0, 1) := dk_42 (dk_at dksX8_init_0 0 rfl rfl)
theorem dX8_init_1 : decode cX8_init 1 = .ok (.invokespecial 3, 3) := dk_183 0 3 (dk_at dksX8_init_0 1 rfl rfl)
theorem dX8_init_4 : decode cX8_init 4 = .ok (.aload_n 0, 1) := dk_42 (dk_at dksX8_init_0 4 rfl rfl)
theorem dX8_init_5 : decode cX8_init 5 = .ok (.bipush 16, 2) := dk_16 16 (dk_at dksX8_init_0 5 rfl rfl)
theorem dX8_init_7 : decode cX8_init 7 = .ok (.newarray .int, 2) := dk_188_10 (dk_at dksX8_init_0 7 rfl rfl)
theorem dX8_init_9 : decode cX8_init 9 = .ok (.putfield 9, 3) := dk_181 0 9 (dk_at dksX8_init_0 9 rfl rfl)
theorem dX8_init_12 : decode cX8_init 12 = .ok (.aload_n 0, 1) := dk_42 (dk_at dksX8_init_0 12 rfl rfl)
theorem dX8_init_13 : decode cX8_init 13 = .ok (.bipush 16, 2) := dk_16 16 (dk_at dksX8_init_0 13 rfl rfl)
theorem dX8_init_15 : decode cX8_init 15 = .ok (.newarray .int, 2) := dk_188_10 (dk_at dksX8_init_0 15 rfl rfl)
theorem dX8_init_17 : decode cX8_init 17 = .ok (.putfield 15, 3) := dk_181 0 15 (dk_at dksX8_init_0 17 rfl rfl)
theorem dX8_init_20 : decode cX8_init 20 = .ok (.aload_n 0, 1) := dk_42 (dk_at dksX8_init_0 20 rfl rfl)
theorem dX8_init_21 : decode cX8_init 21 = .ok (.bipush 16, 2) := dk_16 16 (dk_at dksX8_init_0 21 rfl rfl)
theorem dX8_init_23 : decode cX8_init 23 = .ok (.newarray .int, 2) := dk_188_10 (dk_at dksX8_init_1 0 rfl rfl)
theorem dX8_init_25 : decode cX8_init 25 = .ok (.putfield 18, 3) := dk_181 0 18 (dk_at dksX8_init_1 2 rfl rfl)
theorem dX8_init_28 : decode cX8_init 28 = .ok (.aload_n 0, 1) := dk_42 (dk_at dksX8_init_1 5 rfl rfl)
theorem dX8_init_29 : decode cX8_init 29 = .ok (.iconst (-1), 1) := dk_2 (dk_at dksX8_init_1 6 rfl rfl)
theorem dX8_init_30 : decode cX8_init 30 = .ok (.putfield 21, 3) := dk_181 0 21 (dk_at dksX8_init_1 7 rfl rfl)
theorem dX8_init_33 : decode cX8_init 33 = .ok (.aload_n 0, 1) := dk_42 (dk_at dksX8_init_1 10 rfl rfl)
theorem dX8_init_34 : decode cX8_init 34 = .ok (.iconst (-1), 1) := dk_2 (dk_at dksX8_init_1 11 rfl rfl)
theorem dX8_init_35 : decode cX8_init 35 = .ok (.putfield 25, 3) := dk_181 0 25 (dk_at dksX8_init_1 12 rfl rfl)
theorem dX8_init_38 : decode cX8_init 38 = .ok (.aload_n 0, 1) := dk_42 (dk_at dksX8_init_1 15 rfl rfl)
theorem dX8_init_39 : decode cX8_init 39 = .ok (.iconst (-1), 1) := dk_2 (dk_at dksX8_init_1 16 rfl rfl)
theorem dX8_init_40 : decode cX8_init 40 = .ok (.putfield 28, 3) := dk_181 0 28 (dk_at dksX8_init_1 17 rfl rfl)
theorem dX8_init_43 : decode cX8_init 43 = .ok (.aload_n 0, 1) := dk_42 (dk_at dksX8_init_1 20 rfl rfl)
theorem dX8_init_44 : decode cX8_init 44 = .ok (.ldc 31, 2) := dk_18 31 (dk_at dksX8_init_1 21 rfl rfl)
theorem dX8_init_46 : decode cX8_init 46 = .ok (.putfield 32, 3) := dk_181 0 32 (dk_at dksX8_init_2 0 rfl rfl)
theorem dX8_init_49 : decode cX8_init 49 = .ok (.aload_n 0, 1) := dk_42 (dk_at dksX8_init_2 3 rfl rfl)
theorem dX8_init_50 : decode cX8_init 50 = .ok (.iconst 4, 1) := dk_7 (dk_at dksX8_init_2 4 rfl rfl)
theorem dX8_init_51 : decode cX8_init 51 = .ok (.newarray .int, 2) := dk_188_10 (dk_at dksX8_init_2 5 rfl rfl)
theorem dX8_init_53 : decode cX8_init 53 = .ok (.putfield 35, 3) := dk_181 0 35 (dk_at dksX8_init_2 7 rfl rfl)
theorem dX8_init_56 : decode cX8_init 56 = .ok (.aload_n 0, 1) := dk_42 (dk_at dksX8_init_2 10 rfl rfl)
theorem dX8_init_57 : decode cX8_init 57 = .ok (.iload_n 1, 1) := dk_27 (dk_at dksX8_init_2 11 rfl rfl)
theorem dX8_init_58 : decode cX8_init 58 = .ok (.putfield 38, 3) := dk_181 0 38 (dk_at dksX8_init_2 12 rfl rfl)
theorem dX8_init_61 : decode cX8_init 61 = .ok (.aload_n 0, 1) := dk_42 (dk_at dksX8_init_2 15 rfl rfl)
theorem dX8_init_62 : decode cX8_init 62 = .ok (.iload_n 2, 1) := dk_28 (dk_at dksX8_init_2 16 rfl rfl)
theorem dX8_init_63 : decode cX8_init 63 = .ok (.putfield 41, 3) := dk_181 0 41 (dk_at dksX8_init_2 17 rfl rfl)
theorem dX8_init_66 : decode cX8_init 66 = .ok (.aload_n 0, 1) := dk_42 (dk_at dksX8_init_2 20 rfl rfl)
theorem dX8_init_67 : decode cX8_init 67 = .ok (.iload_n 3, 1) := dk_29 (dk_at dksX8_init_2 21 rfl rfl)
theorem dX8_init_68 : decode cX8_init 68 = .ok (.putfield 44, 3) := dk_181 0 44 (dk_at dksX8_init_3 0 rfl rfl)
theorem dX8_init_71 : decode cX8_init 71 = .ok (.aload_n 0, 1) := dk_42 (dk_at dksX8_init_3 3 rfl rfl)
theorem dX8_init_72 : decode cX8_init 72 = .ok (.iload 4, 2) := dk_21 4 (dk_at dksX8_init_3 4 rfl rfl)
theorem dX8_init_74 : decode cX8_init 74 = .ok (.putfield 47, 3) := dk_181 0 47 (dk_at dksX8_init_3 6 rfl rfl)
theorem dX8_init_77 : decode cX8_init 77 = .ok (.aload_n 0, 1) := dk_42 (dk_at dksX8_init_3 9 rfl rfl)
theorem dX8_init_78 : decode cX8_init 78 = .ok (.iload 5, 2) := dk_21 5 (dk_at dksX8_init_3 10 rfl rfl)
theorem dX8_init_80 : decode cX8_init 80 = .ok (.putfield 50, 3) := dk_181 0 50 (dk_at dksX8_init_3 12 rfl rfl)
theorem dX8_init_83 : decode cX8_init 83 = .ok (.aload_n 0, 1) := dk_42 (dk_at dksX8_init_3 15 rfl rfl)
theorem dX8_init_84 : decode cX8_init 84 = .ok (.iload 6, 2) := dk_21 6 (dk_at dksX8_init_3 16 rfl rfl)
theorem dX8_init_86 : decode cX8_init 86 = .ok (.putfield 53, 3) := dk_181 0 53 (dk_at dksX8_init_3 18 rfl rfl)
theorem dX8_init_89 : decode cX8_init 89 = .ok (.aload_n 0, 1) := dk_42 (dk_at dksX8_init_3 21 rfl rfl)
theorem dX8_init_90 : decode cX8_init 90 = .ok (.iload 6, 2) := dk_21 6 (dk_at dksX8_init_3 22 rfl rfl)
theorem dX8_init_92 : decode cX8_init 92 = .ok (.iconst 4, 1) := dk_7 (dk_at dksX8_init_4 0 rfl rfl)
theorem dX8_init_93 : decode cX8_init 93 = .ok (.idiv, 1) := dk_108 (dk_at dksX8_init_4 1 rfl rfl)
theorem dX8_init_94 : decode cX8_init 94 = .ok (.putfield 56, 3) := dk_181 0 56 (dk_at dksX8_init_4 2 rfl rfl)
theorem dX8_init_97 : decode cX8_init 97 = .ok (.aload_n 0, 1) := dk_42 (dk_at dksX8_init_4 5 rfl rfl)
theorem dX8_init_98 : decode cX8_init 98 = .ok (.getfield 9, 3) := dk_180 0 9 (dk_at dksX8_init_4 6 rfl rfl)
theorem dX8_init_101 : decode cX8_init 101 = .ok (.aload_n 0, 1) := dk_42 (dk_at dksX8_init_4 9 rfl rfl)
theorem dX8_init_102 : decode cX8_init 102 = .ok (.getfield 56, 3) := dk_180 0 56 (dk_at dksX8_init_4 10 rfl rfl)
theorem dX8_init_105 : decode cX8_init 105 = .ok (.iload_n 2, 1) := dk_28 (dk_at dksX8_init_4 13 rfl rfl)
theorem dX8_init_106 : decode cX8_init 106 = .ok (.iastore, 1) := dk_79 (dk_at dksX8_init_4 14 rfl rfl)
theorem dX8_init_107 : decode cX8_init 107 = .ok (.return_, 1) := dk_177 (dk_at dksX8_init_4 15 rfl rfl)
abbrev cX8_copy : ByteArray := prog_2_method_2_code
def yX8_copy : MethodName := ⟨RX8, "copy", "()LExemptDesk$Asset;"⟩
def dkwX8_copy_6 : List UInt8 := [180, 0, 62, 181, 0, 62, 43, 42, 180, 0, 65, 181, 0, 65, 43, 176]
abbrev dktX8_copy_6 : List UInt8 := dkwX8_copy_6 ++ []
def dkwX8_copy_5 : List UInt8 := [180, 0, 25, 181, 0, 25, 43, 42, 180, 0, 28, 181, 0, 28, 43, 42, 180, 0, 32, 181, 0, 32, 43, 42]
abbrev dktX8_copy_5 : List UInt8 := dkwX8_copy_5 ++ dktX8_copy_6
def dkwX8_copy_4 : List UInt8 := [42, 180, 0, 35, 28, 46, 79, 132, 2, 1, 167, 255, 236, 43, 42, 180, 0, 21, 181, 0, 21, 43, 42]
abbrev dktX8_copy_4 : List UInt8 := dkwX8_copy_4 ++ dktX8_copy_5
def dkwX8_copy_3 : List UInt8 := [180, 0, 18, 28, 46, 79, 132, 2, 1, 167, 255, 211, 3, 61, 28, 7, 162, 0, 21, 43, 180, 0, 35, 28]
abbrev dktX8_copy_3 : List UInt8 := dkwX8_copy_3 ++ dktX8_copy_4
def dkwX8_copy_2 : List UInt8 := [180, 0, 9, 28, 46, 79, 43, 180, 0, 15, 28, 42, 180, 0, 15, 28, 46, 79, 43, 180, 0, 18, 28, 42]
abbrev dktX8_copy_2 : List UInt8 := dkwX8_copy_2 ++ dktX8_copy_3
def dkwX8_copy_1 : List UInt8 := [42, 180, 0, 53, 183, 0, 59, 76, 3, 61, 28, 16, 16, 162, 0, 45, 43, 180, 0, 9, 28, 42]
abbrev dktX8_copy_1 : List UInt8 := dkwX8_copy_1 ++ dktX8_copy_2
def dkwX8_copy_0 : List UInt8 := [187, 0, 10, 89, 42, 180, 0, 38, 42, 180, 0, 41, 42, 180, 0, 44, 42, 180, 0, 47, 42, 180, 0, 50]
abbrev dktX8_copy_0 : List UInt8 := dkwX8_copy_0 ++ dktX8_copy_1
theorem dksX8_copy_0 : cX8_copy.data.toList.drop 0 = dktX8_copy_0 := by decide +kernel
theorem dksX8_copy_1 : cX8_copy.data.toList.drop 24 = dktX8_copy_1 := dk_seg dksX8_copy_0 24 rfl rfl
theorem dksX8_copy_2 : cX8_copy.data.toList.drop 46 = dktX8_copy_2 := dk_seg dksX8_copy_1 22 rfl rfl
theorem dksX8_copy_3 : cX8_copy.data.toList.drop 70 = dktX8_copy_3 := dk_seg dksX8_copy_2 24 rfl rfl
theorem dksX8_copy_4 : cX8_copy.data.toList.drop 94 = dktX8_copy_4 := dk_seg dksX8_copy_3 24 rfl rfl
theorem dksX8_copy_5 : cX8_copy.data.toList.drop 117 = dktX8_copy_5 := dk_seg dksX8_copy_4 23 rfl rfl
theorem dksX8_copy_6 : cX8_copy.data.toList.drop 141 = dktX8_copy_6 := dk_seg dksX8_copy_5 24 rfl rfl
theorem dX8_copy_0 : decode cX8_copy 0 = .ok (.new 10, 3) := dk_187 0 10 (dk_at dksX8_copy_0 0 rfl rfl)
theorem dX8_copy_3 : decode cX8_copy 3 = .ok (.dup, 1) := dk_89 (dk_at dksX8_copy_0 3 rfl rfl)
theorem dX8_copy_4 : decode cX8_copy 4 = .ok (.aload_n 0, 1) := dk_42 (dk_at dksX8_copy_0 4 rfl rfl)
theorem dX8_copy_5 : decode cX8_copy 5 = .ok (.getfield 38, 3) := dk_180 0 38 (dk_at dksX8_copy_0 5 rfl rfl)
theorem dX8_copy_8 : decode cX8_copy 8 = .ok (.aload_n 0, 1) := dk_42 (dk_at dksX8_copy_0 8 rfl rfl)
theorem dX8_copy_9 : decode cX8_copy 9 = .ok (.getfield 41, 3) := dk_180 0 41 (dk_at dksX8_copy_0 9 rfl rfl)
theorem dX8_copy_12 : decode cX8_copy 12 = .ok (.aload_n 0, 1) := dk_42 (dk_at dksX8_copy_0 12 rfl rfl)
theorem dX8_copy_13 : decode cX8_copy 13 = .ok (.getfield 44, 3) := dk_180 0 44 (dk_at dksX8_copy_0 13 rfl rfl)
theorem dX8_copy_16 : decode cX8_copy 16 = .ok (.aload_n 0, 1) := dk_42 (dk_at dksX8_copy_0 16 rfl rfl)
theorem dX8_copy_17 : decode cX8_copy 17 = .ok (.getfield 47, 3) := dk_180 0 47 (dk_at dksX8_copy_0 17 rfl rfl)
theorem dX8_copy_20 : decode cX8_copy 20 = .ok (.aload_n 0, 1) := dk_42 (dk_at dksX8_copy_0 20 rfl rfl)
theorem dX8_copy_21 : decode cX8_copy 21 = .ok (.getfield 50, 3) := dk_180 0 50 (dk_at dksX8_copy_0 21 rfl rfl)
theorem dX8_copy_24 : decode cX8_copy 24 = .ok (.aload_n 0, 1) := dk_42 (dk_at dksX8_copy_1 0 rfl rfl)
theorem dX8_copy_25 : decode cX8_copy 25 = .ok (.getfield 53, 3) := dk_180 0 53 (dk_at dksX8_copy_1 1 rfl rfl)
theorem dX8_copy_28 : decode cX8_copy 28 = .ok (.invokespecial 59, 3) := dk_183 0 59 (dk_at dksX8_copy_1 4 rfl rfl)
theorem dX8_copy_31 : decode cX8_copy 31 = .ok (.astore_n 1, 1) := dk_76 (dk_at dksX8_copy_1 7 rfl rfl)
theorem dX8_copy_32 : decode cX8_copy 32 = .ok (.iconst 0, 1) := dk_3 (dk_at dksX8_copy_1 8 rfl rfl)
theorem dX8_copy_33 : decode cX8_copy 33 = .ok (.istore_n 2, 1) := dk_61 (dk_at dksX8_copy_1 9 rfl rfl)
theorem dX8_copy_34 : decode cX8_copy 34 = .ok (.iload_n 2, 1) := dk_28 (dk_at dksX8_copy_1 10 rfl rfl)
theorem dX8_copy_35 : decode cX8_copy 35 = .ok (.bipush 16, 2) := dk_16 16 (dk_at dksX8_copy_1 11 rfl rfl)
theorem dX8_copy_37 : decode cX8_copy 37 = .ok (.if_icmp .ge 45, 3) := dk_162 0 45 (dk_at dksX8_copy_1 13 rfl rfl)
theorem dX8_copy_40 : decode cX8_copy 40 = .ok (.aload_n 1, 1) := dk_43 (dk_at dksX8_copy_1 16 rfl rfl)
theorem dX8_copy_41 : decode cX8_copy 41 = .ok (.getfield 9, 3) := dk_180 0 9 (dk_at dksX8_copy_1 17 rfl rfl)
theorem dX8_copy_44 : decode cX8_copy 44 = .ok (.iload_n 2, 1) := dk_28 (dk_at dksX8_copy_1 20 rfl rfl)
theorem dX8_copy_45 : decode cX8_copy 45 = .ok (.aload_n 0, 1) := dk_42 (dk_at dksX8_copy_1 21 rfl rfl)
theorem dX8_copy_46 : decode cX8_copy 46 = .ok (.getfield 9, 3) := dk_180 0 9 (dk_at dksX8_copy_2 0 rfl rfl)
theorem dX8_copy_49 : decode cX8_copy 49 = .ok (.iload_n 2, 1) := dk_28 (dk_at dksX8_copy_2 3 rfl rfl)
theorem dX8_copy_50 : decode cX8_copy 50 = .ok (.iaload, 1) := dk_46 (dk_at dksX8_copy_2 4 rfl rfl)
theorem dX8_copy_51 : decode cX8_copy 51 = .ok (.iastore, 1) := dk_79 (dk_at dksX8_copy_2 5 rfl rfl)
theorem dX8_copy_52 : decode cX8_copy 52 = .ok (.aload_n 1, 1) := dk_43 (dk_at dksX8_copy_2 6 rfl rfl)
theorem dX8_copy_53 : decode cX8_copy 53 = .ok (.getfield 15, 3) := dk_180 0 15 (dk_at dksX8_copy_2 7 rfl rfl)
theorem dX8_copy_56 : decode cX8_copy 56 = .ok (.iload_n 2, 1) := dk_28 (dk_at dksX8_copy_2 10 rfl rfl)
theorem dX8_copy_57 : decode cX8_copy 57 = .ok (.aload_n 0, 1) := dk_42 (dk_at dksX8_copy_2 11 rfl rfl)
theorem dX8_copy_58 : decode cX8_copy 58 = .ok (.getfield 15, 3) := dk_180 0 15 (dk_at dksX8_copy_2 12 rfl rfl)
theorem dX8_copy_61 : decode cX8_copy 61 = .ok (.iload_n 2, 1) := dk_28 (dk_at dksX8_copy_2 15 rfl rfl)
theorem dX8_copy_62 : decode cX8_copy 62 = .ok (.iaload, 1) := dk_46 (dk_at dksX8_copy_2 16 rfl rfl)
theorem dX8_copy_63 : decode cX8_copy 63 = .ok (.iastore, 1) := dk_79 (dk_at dksX8_copy_2 17 rfl rfl)
theorem dX8_copy_64 : decode cX8_copy 64 = .ok (.aload_n 1, 1) := dk_43 (dk_at dksX8_copy_2 18 rfl rfl)
theorem dX8_copy_65 : decode cX8_copy 65 = .ok (.getfield 18, 3) := dk_180 0 18 (dk_at dksX8_copy_2 19 rfl rfl)
theorem dX8_copy_68 : decode cX8_copy 68 = .ok (.iload_n 2, 1) := dk_28 (dk_at dksX8_copy_2 22 rfl rfl)
theorem dX8_copy_69 : decode cX8_copy 69 = .ok (.aload_n 0, 1) := dk_42 (dk_at dksX8_copy_2 23 rfl rfl)
theorem dX8_copy_70 : decode cX8_copy 70 = .ok (.getfield 18, 3) := dk_180 0 18 (dk_at dksX8_copy_3 0 rfl rfl)
theorem dX8_copy_73 : decode cX8_copy 73 = .ok (.iload_n 2, 1) := dk_28 (dk_at dksX8_copy_3 3 rfl rfl)
theorem dX8_copy_74 : decode cX8_copy 74 = .ok (.iaload, 1) := dk_46 (dk_at dksX8_copy_3 4 rfl rfl)
theorem dX8_copy_75 : decode cX8_copy 75 = .ok (.iastore, 1) := dk_79 (dk_at dksX8_copy_3 5 rfl rfl)
theorem dX8_copy_76 : decode cX8_copy 76 = .ok (.iinc 2 1, 3) := dk_132 2 1 (dk_at dksX8_copy_3 6 rfl rfl)
theorem dX8_copy_79 : decode cX8_copy 79 = .ok (.goto (-45), 3) := dk_167 255 211 (dk_at dksX8_copy_3 9 rfl rfl)
theorem dX8_copy_82 : decode cX8_copy 82 = .ok (.iconst 0, 1) := dk_3 (dk_at dksX8_copy_3 12 rfl rfl)
theorem dX8_copy_83 : decode cX8_copy 83 = .ok (.istore_n 2, 1) := dk_61 (dk_at dksX8_copy_3 13 rfl rfl)
theorem dX8_copy_84 : decode cX8_copy 84 = .ok (.iload_n 2, 1) := dk_28 (dk_at dksX8_copy_3 14 rfl rfl)
theorem dX8_copy_85 : decode cX8_copy 85 = .ok (.iconst 4, 1) := dk_7 (dk_at dksX8_copy_3 15 rfl rfl)
theorem dX8_copy_86 : decode cX8_copy 86 = .ok (.if_icmp .ge 21, 3) := dk_162 0 21 (dk_at dksX8_copy_3 16 rfl rfl)
theorem dX8_copy_89 : decode cX8_copy 89 = .ok (.aload_n 1, 1) := dk_43 (dk_at dksX8_copy_3 19 rfl rfl)
theorem dX8_copy_90 : decode cX8_copy 90 = .ok (.getfield 35, 3) := dk_180 0 35 (dk_at dksX8_copy_3 20 rfl rfl)
theorem dX8_copy_93 : decode cX8_copy 93 = .ok (.iload_n 2, 1) := dk_28 (dk_at dksX8_copy_3 23 rfl rfl)
theorem dX8_copy_94 : decode cX8_copy 94 = .ok (.aload_n 0, 1) := dk_42 (dk_at dksX8_copy_4 0 rfl rfl)
theorem dX8_copy_95 : decode cX8_copy 95 = .ok (.getfield 35, 3) := dk_180 0 35 (dk_at dksX8_copy_4 1 rfl rfl)
theorem dX8_copy_98 : decode cX8_copy 98 = .ok (.iload_n 2, 1) := dk_28 (dk_at dksX8_copy_4 4 rfl rfl)
theorem dX8_copy_99 : decode cX8_copy 99 = .ok (.iaload, 1) := dk_46 (dk_at dksX8_copy_4 5 rfl rfl)
theorem dX8_copy_100 : decode cX8_copy 100 = .ok (.iastore, 1) := dk_79 (dk_at dksX8_copy_4 6 rfl rfl)
theorem dX8_copy_101 : decode cX8_copy 101 = .ok (.iinc 2 1, 3) := dk_132 2 1 (dk_at dksX8_copy_4 7 rfl rfl)
theorem dX8_copy_104 : decode cX8_copy 104 = .ok (.goto (-20), 3) := dk_167 255 236 (dk_at dksX8_copy_4 10 rfl rfl)
theorem dX8_copy_107 : decode cX8_copy 107 = .ok (.aload_n 1, 1) := dk_43 (dk_at dksX8_copy_4 13 rfl rfl)
theorem dX8_copy_108 : decode cX8_copy 108 = .ok (.aload_n 0, 1) := dk_42 (dk_at dksX8_copy_4 14 rfl rfl)
theorem dX8_copy_109 : decode cX8_copy 109 = .ok (.getfield 21, 3) := dk_180 0 21 (dk_at dksX8_copy_4 15 rfl rfl)
theorem dX8_copy_112 : decode cX8_copy 112 = .ok (.putfield 21, 3) := dk_181 0 21 (dk_at dksX8_copy_4 18 rfl rfl)
theorem dX8_copy_115 : decode cX8_copy 115 = .ok (.aload_n 1, 1) := dk_43 (dk_at dksX8_copy_4 21 rfl rfl)
theorem dX8_copy_116 : decode cX8_copy 116 = .ok (.aload_n 0, 1) := dk_42 (dk_at dksX8_copy_4 22 rfl rfl)
theorem dX8_copy_117 : decode cX8_copy 117 = .ok (.getfield 25, 3) := dk_180 0 25 (dk_at dksX8_copy_5 0 rfl rfl)
theorem dX8_copy_120 : decode cX8_copy 120 = .ok (.putfield 25, 3) := dk_181 0 25 (dk_at dksX8_copy_5 3 rfl rfl)
theorem dX8_copy_123 : decode cX8_copy 123 = .ok (.aload_n 1, 1) := dk_43 (dk_at dksX8_copy_5 6 rfl rfl)
theorem dX8_copy_124 : decode cX8_copy 124 = .ok (.aload_n 0, 1) := dk_42 (dk_at dksX8_copy_5 7 rfl rfl)
theorem dX8_copy_125 : decode cX8_copy 125 = .ok (.getfield 28, 3) := dk_180 0 28 (dk_at dksX8_copy_5 8 rfl rfl)
theorem dX8_copy_128 : decode cX8_copy 128 = .ok (.putfield 28, 3) := dk_181 0 28 (dk_at dksX8_copy_5 11 rfl rfl)
theorem dX8_copy_131 : decode cX8_copy 131 = .ok (.aload_n 1, 1) := dk_43 (dk_at dksX8_copy_5 14 rfl rfl)
theorem dX8_copy_132 : decode cX8_copy 132 = .ok (.aload_n 0, 1) := dk_42 (dk_at dksX8_copy_5 15 rfl rfl)
theorem dX8_copy_133 : decode cX8_copy 133 = .ok (.getfield 32, 3) := dk_180 0 32 (dk_at dksX8_copy_5 16 rfl rfl)
theorem dX8_copy_136 : decode cX8_copy 136 = .ok (.putfield 32, 3) := dk_181 0 32 (dk_at dksX8_copy_5 19 rfl rfl)
theorem dX8_copy_139 : decode cX8_copy 139 = .ok (.aload_n 1, 1) := dk_43 (dk_at dksX8_copy_5 22 rfl rfl)
theorem dX8_copy_140 : decode cX8_copy 140 = .ok (.aload_n 0, 1) := dk_42 (dk_at dksX8_copy_5 23 rfl rfl)
theorem dX8_copy_141 : decode cX8_copy 141 = .ok (.getfield 62, 3) := dk_180 0 62 (dk_at dksX8_copy_6 0 rfl rfl)
theorem dX8_copy_144 : decode cX8_copy 144 = .ok (.putfield 62, 3) := dk_181 0 62 (dk_at dksX8_copy_6 3 rfl rfl)
theorem dX8_copy_147 : decode cX8_copy 147 = .ok (.aload_n 1, 1) := dk_43 (dk_at dksX8_copy_6 6 rfl rfl)
theorem dX8_copy_148 : decode cX8_copy 148 = .ok (.aload_n 0, 1) := dk_42 (dk_at dksX8_copy_6 7 rfl rfl)
theorem dX8_copy_149 : decode cX8_copy 149 = .ok (.getfield 65, 3) := dk_180 0 65 (dk_at dksX8_copy_6 8 rfl rfl)
theorem dX8_copy_152 : decode cX8_copy 152 = .ok (.putfield 65, 3) := dk_181 0 65 (dk_at dksX8_copy_6 11 rfl rfl)
theorem dX8_copy_155 : decode cX8_copy 155 = .ok (.aload_n 1, 1) := dk_43 (dk_at dksX8_copy_6 14 rfl rfl)
theorem dX8_copy_156 : decode cX8_copy 156 = .ok (.areturn, 1) := dk_176 (dk_at dksX8_copy_6 15 rfl rfl)
abbrev cX8_isOpen : ByteArray := prog_2_method_3_code
def yX8_isOpen : MethodName := ⟨RX8, "isOpen", "()Z"⟩
def dkwX8_isOpen_0 : List UInt8 := [42, 180, 0, 65, 154, 0, 15, 42, 180, 0, 25, 2, 160, 0, 7, 4, 167, 0, 4, 3, 172]
abbrev dktX8_isOpen_0 : List UInt8 := dkwX8_isOpen_0 ++ []
theorem dksX8_isOpen_0 : cX8_isOpen.data.toList.drop 0 = dktX8_isOpen_0 := by decide +kernel
theorem dX8_isOpen_0 : decode cX8_isOpen 0 = .ok (.aload_n 0, 1) := dk_42 (dk_at dksX8_isOpen_0 0 rfl rfl)
theorem dX8_isOpen_1 : decode cX8_isOpen 1 = .ok (.getfield 65, 3) := dk_180 0 65 (dk_at dksX8_isOpen_0 1 rfl rfl)
theorem dX8_isOpen_4 : decode cX8_isOpen 4 = .ok (.ifCond .ne 15, 3) := dk_154 0 15 (dk_at dksX8_isOpen_0 4 rfl rfl)
theorem dX8_isOpen_7 : decode cX8_isOpen 7 = .ok (.aload_n 0, 1) := dk_42 (dk_at dksX8_isOpen_0 7 rfl rfl)
theorem dX8_isOpen_8 : decode cX8_isOpen 8 = .ok (.getfield 25, 3) := dk_180 0 25 (dk_at dksX8_isOpen_0 8 rfl rfl)
theorem dX8_isOpen_11 : decode cX8_isOpen 11 = .ok (.iconst (-1), 1) := dk_2 (dk_at dksX8_isOpen_0 11 rfl rfl)
theorem dX8_isOpen_12 : decode cX8_isOpen 12 = .ok (.if_icmp .ne 7, 3) := dk_160 0 7 (dk_at dksX8_isOpen_0 12 rfl rfl)
theorem dX8_isOpen_15 : decode cX8_isOpen 15 = .ok (.iconst 1, 1) := dk_4 (dk_at dksX8_isOpen_0 15 rfl rfl)
theorem dX8_isOpen_16 : decode cX8_isOpen 16 = .ok (.goto 4, 3) := dk_167 0 4 (dk_at dksX8_isOpen_0 16 rfl rfl)
theorem dX8_isOpen_19 : decode cX8_isOpen 19 = .ok (.iconst 0, 1) := dk_3 (dk_at dksX8_isOpen_0 19 rfl rfl)
theorem dX8_isOpen_20 : decode cX8_isOpen 20 = .ok (.ireturn, 1) := dk_172 (dk_at dksX8_isOpen_0 20 rfl rfl)
abbrev cX8_interval : ByteArray := prog_2_method_4_code
def yX8_interval : MethodName := ⟨RX8, "interval", "(I)I"⟩
def dkwX8_interval_0 : List UInt8 := [27, 7, 108, 42, 180, 0, 56, 100, 172]
abbrev dktX8_interval_0 : List UInt8 := dkwX8_interval_0 ++ []
theorem dksX8_interval_0 : cX8_interval.data.toList.drop 0 = dktX8_interval_0 := by decide +kernel
theorem dX8_interval_0 : decode cX8_interval 0 = .ok (.iload_n 1, 1) := dk_27 (dk_at dksX8_interval_0 0 rfl rfl)
theorem dX8_interval_1 : decode cX8_interval 1 = .ok (.iconst 4, 1) := dk_7 (dk_at dksX8_interval_0 1 rfl rfl)
theorem dX8_interval_2 : decode cX8_interval 2 = .ok (.idiv, 1) := dk_108 (dk_at dksX8_interval_0 2 rfl rfl)
theorem dX8_interval_3 : decode cX8_interval 3 = .ok (.aload_n 0, 1) := dk_42 (dk_at dksX8_interval_0 3 rfl rfl)
theorem dX8_interval_4 : decode cX8_interval 4 = .ok (.getfield 56, 3) := dk_180 0 56 (dk_at dksX8_interval_0 4 rfl rfl)
theorem dX8_interval_7 : decode cX8_interval 7 = .ok (.isub, 1) := dk_100 (dk_at dksX8_interval_0 7 rfl rfl)
theorem dX8_interval_8 : decode cX8_interval 8 = .ok (.ireturn, 1) := dk_172 (dk_at dksX8_interval_0 8 rfl rfl)
abbrev cX8_share : ByteArray := prog_2_method_5_code
def yX8_share : MethodName := ⟨RX8, "share", "(IIIILExemptDesk$Way;)J"⟩
def dkwX8_share_1 : List UInt8 := [182, 0, 69, 133, 173]
abbrev dktX8_share_1 : List UInt8 := dkwX8_share_1 ++ []
def dkwX8_share_0 : List UInt8 := [25, 5, 42, 180, 0, 47, 133, 29, 133, 105, 27, 28, 100, 133, 105, 42, 180, 0, 50, 133, 21, 4, 133, 105]
abbrev dktX8_share_0 : List UInt8 := dkwX8_share_0 ++ dktX8_share_1
theorem dksX8_share_0 : cX8_share.data.toList.drop 0 = dktX8_share_0 := by decide +kernel
theorem dksX8_share_1 : cX8_share.data.toList.drop 24 = dktX8_share_1 := dk_seg dksX8_share_0 24 rfl rfl
theorem dX8_share_0 : decode cX8_share 0 = .ok (.aload 5, 2) := dk_25 5 (dk_at dksX8_share_0 0 rfl rfl)
theorem dX8_share_2 : decode cX8_share 2 = .ok (.aload_n 0, 1) := dk_42 (dk_at dksX8_share_0 2 rfl rfl)
theorem dX8_share_3 : decode cX8_share 3 = .ok (.getfield 47, 3) := dk_180 0 47 (dk_at dksX8_share_0 3 rfl rfl)
theorem dX8_share_6 : decode cX8_share 6 = .ok (.i2l, 1) := dk_133 (dk_at dksX8_share_0 6 rfl rfl)
theorem dX8_share_7 : decode cX8_share 7 = .ok (.iload_n 3, 1) := dk_29 (dk_at dksX8_share_0 7 rfl rfl)
theorem dX8_share_8 : decode cX8_share 8 = .ok (.i2l, 1) := dk_133 (dk_at dksX8_share_0 8 rfl rfl)
theorem dX8_share_9 : decode cX8_share 9 = .ok (.lmul, 1) := dk_105 (dk_at dksX8_share_0 9 rfl rfl)
theorem dX8_share_10 : decode cX8_share 10 = .ok (.iload_n 1, 1) := dk_27 (dk_at dksX8_share_0 10 rfl rfl)
theorem dX8_share_11 : decode cX8_share 11 = .ok (.iload_n 2, 1) := dk_28 (dk_at dksX8_share_0 11 rfl rfl)
theorem dX8_share_12 : decode cX8_share 12 = .ok (.isub, 1) := dk_100 (dk_at dksX8_share_0 12 rfl rfl)
theorem dX8_share_13 : decode cX8_share 13 = .ok (.i2l, 1) := dk_133 (dk_at dksX8_share_0 13 rfl rfl)
theorem dX8_share_14 : decode cX8_share 14 = .ok (.lmul, 1) := dk_105 (dk_at dksX8_share_0 14 rfl rfl)
theorem dX8_share_15 : decode cX8_share 15 = .ok (.aload_n 0, 1) := dk_42 (dk_at dksX8_share_0 15 rfl rfl)
theorem dX8_share_16 : decode cX8_share 16 = .ok (.getfield 50, 3) := dk_180 0 50 (dk_at dksX8_share_0 16 rfl rfl)
theorem dX8_share_19 : decode cX8_share 19 = .ok (.i2l, 1) := dk_133 (dk_at dksX8_share_0 19 rfl rfl)
theorem dX8_share_20 : decode cX8_share 20 = .ok (.iload 4, 2) := dk_21 4 (dk_at dksX8_share_0 20 rfl rfl)
theorem dX8_share_22 : decode cX8_share 22 = .ok (.i2l, 1) := dk_133 (dk_at dksX8_share_0 22 rfl rfl)
theorem dX8_share_23 : decode cX8_share 23 = .ok (.lmul, 1) := dk_105 (dk_at dksX8_share_0 23 rfl rfl)
theorem dX8_share_24 : decode cX8_share 24 = .ok (.invokevirtual 69, 3) := dk_182 0 69 (dk_at dksX8_share_1 0 rfl rfl)
theorem dX8_share_27 : decode cX8_share 27 = .ok (.i2l, 1) := dk_133 (dk_at dksX8_share_1 3 rfl rfl)
theorem dX8_share_28 : decode cX8_share 28 = .ok (.lreturn, 1) := dk_173 (dk_at dksX8_share_1 4 rfl rfl)
theorem q163 : (Jvm.Cond.initialized "ExemptDesk$Asset") ∈ lw_all := lw_g (lw_at lw_m1 41 rfl) rfl
theorem q218 : (Jvm.Cond.selects "ExemptDesk$Asset" ({ cls := "java/lang/Object", name := "getClass", desc := "()Ljava/lang/Class;" } : Jvm.MethodName) ({ cls := "java/lang/Object", name := "getClass", desc := "()Ljava/lang/Class;" } : Jvm.MethodName)) ∈ lw_all := lw_g (lw_at lw_m1 96 rfl) rfl
theorem q1121 : (Jvm.Cond.instantiable "ExemptDesk$Asset" (17 : Nat)) ∈ lw_all := lw_g (lw_at lw_m5 39 rfl) rfl
theorem q1123 : (Jvm.Cond.instanceMethod ({ cls := "ExemptDesk$Asset", name := "<init>", desc := "(IIIIII)V" } : Jvm.MethodName)) ∈ lw_all := lw_g (lw_at lw_m5 41 rfl) rfl
theorem q1124 : (Jvm.Cond.code ({ cls := "ExemptDesk$Asset", name := "<init>", desc := "(IIIIII)V" } : Jvm.MethodName) prog_2_method_1_code (7 : Nat) (Option.none : Option Jvm.ClassFile.FieldType)) ∈ lw_all := lw_g (lw_at lw_m5 42 rfl) rfl
theorem q1125 : (Jvm.Cond.methodLink "ExemptDesk$Asset" (3 : Nat) ({ cls := "java/lang/Object", name := "<init>", desc := "()V" } : Jvm.MethodName)) ∈ lw_all := lw_g (lw_at lw_m5 43 rfl) rfl
theorem q1126 : (Jvm.Cond.constant "ExemptDesk$Asset" (31 : Nat) (-999999 : Int32)) ∈ lw_all := lw_g (lw_at lw_m5 44 rfl) rfl
theorem q1127 : (Jvm.Cond.fieldLink "ExemptDesk$Asset" (38 : Nat) "ExemptDesk$Asset" "number" "I") ∈ lw_all := lw_g (lw_at lw_m5 45 rfl) rfl
theorem q1130 : (Jvm.Cond.fieldLink "ExemptDesk$Asset" (47 : Nat) "ExemptDesk$Asset" "tax" "I") ∈ lw_all := lw_g (lw_at lw_m5 48 rfl) rfl
theorem q1133 : (Jvm.Cond.fieldLink "ExemptDesk$Asset" (50 : Nat) "ExemptDesk$Asset" "intervals" "I") ∈ lw_all := lw_g (lw_at lw_m5 51 rfl) rfl
theorem q1136 : (Jvm.Cond.fieldLink "ExemptDesk$Asset" (53 : Nat) "ExemptDesk$Asset" "bought" "I") ∈ lw_all := lw_g (lw_at lw_m5 54 rfl) rfl
theorem q1138 : (Jvm.Cond.fieldLink "ExemptDesk$Asset" (56 : Nat) "ExemptDesk$Asset" "first" "I") ∈ lw_all := lw_g (lw_at lw_m5 56 rfl) rfl
theorem q1141 : (Jvm.Cond.fieldLink "ExemptDesk$Asset" (9 : Nat) "ExemptDesk$Asset" "owner" "[I") ∈ lw_all := lw_g (lw_at lw_m5 59 rfl) rfl
theorem q1144 : (Jvm.Cond.fieldLink "ExemptDesk$Asset" (15 : Nat) "ExemptDesk$Asset" "worth" "[I") ∈ lw_all := lw_g (lw_at lw_m5 62 rfl) rfl
theorem q1147 : (Jvm.Cond.fieldLink "ExemptDesk$Asset" (18 : Nat) "ExemptDesk$Asset" "adjusted" "[I") ∈ lw_all := lw_g (lw_at lw_m5 65 rfl) rfl
theorem q1150 : (Jvm.Cond.fieldLink "ExemptDesk$Asset" (44 : Nat) "ExemptDesk$Asset" "use" "I") ∈ lw_all := lw_g (lw_at lw_m5 68 rfl) rfl
theorem q1153 : (Jvm.Cond.fieldLink "ExemptDesk$Asset" (21 : Nat) "ExemptDesk$Asset" "base" "I") ∈ lw_all := lw_g (lw_at lw_m5 71 rfl) rfl
theorem q1156 : (Jvm.Cond.fieldLink "ExemptDesk$Asset" (25 : Nat) "ExemptDesk$Asset" "sold" "I") ∈ lw_all := lw_g (lw_at lw_m5 74 rfl) rfl
theorem q1159 : (Jvm.Cond.fieldLink "ExemptDesk$Asset" (28 : Nat) "ExemptDesk$Asset" "cap" "I") ∈ lw_all := lw_g (lw_at lw_m5 77 rfl) rfl
theorem q1162 : (Jvm.Cond.fieldLink "ExemptDesk$Asset" (41 : Nat) "ExemptDesk$Asset" "nextOwner" "I") ∈ lw_all := lw_g (lw_at lw_m5 80 rfl) rfl
theorem q1165 : (Jvm.Cond.fieldLink "ExemptDesk$Asset" (32 : Nat) "ExemptDesk$Asset" "last" "I") ∈ lw_all := lw_g (lw_at lw_m5 83 rfl) rfl
theorem q1168 : (Jvm.Cond.fieldLink "ExemptDesk$Asset" (62 : Nat) "ExemptDesk$Asset" "through" "I") ∈ lw_all := lw_g (lw_at lw_m5 86 rfl) rfl
theorem q1171 : (Jvm.Cond.fieldLink "ExemptDesk$Asset" (35 : Nat) "ExemptDesk$Asset" "uses" "[I") ∈ lw_all := lw_g (lw_at lw_m5 89 rfl) rfl
theorem q1173 : (Jvm.Cond.fieldLink "ExemptDesk$Asset" (65 : Nat) "ExemptDesk$Asset" "isShut" "Z") ∈ lw_all := lw_g (lw_at lw_m5 91 rfl) rfl
theorem q1176 : (Jvm.Cond.laysFinal "ExemptDesk$Asset" "ExemptDesk$Asset" "number" "I") ∈ lw_all := lw_g (lw_at lw_m5 94 rfl) rfl
theorem q1177 : (Jvm.Cond.soleField "ExemptDesk$Asset" "number") ∈ lw_all := lw_g (lw_at lw_m5 95 rfl) rfl
theorem q1178 : (Jvm.Cond.laysFinal "ExemptDesk$Asset" "ExemptDesk$Asset" "tax" "I") ∈ lw_all := lw_g (lw_at lw_m5 96 rfl) rfl
theorem q1179 : (Jvm.Cond.soleField "ExemptDesk$Asset" "tax") ∈ lw_all := lw_g (lw_at lw_m5 97 rfl) rfl
theorem q1180 : (Jvm.Cond.laysFinal "ExemptDesk$Asset" "ExemptDesk$Asset" "intervals" "I") ∈ lw_all := lw_g (lw_at lw_m5 98 rfl) rfl
theorem q1181 : (Jvm.Cond.soleField "ExemptDesk$Asset" "intervals") ∈ lw_all := lw_g (lw_at lw_m5 99 rfl) rfl
theorem q1182 : (Jvm.Cond.laysFinal "ExemptDesk$Asset" "ExemptDesk$Asset" "bought" "I") ∈ lw_all := lw_g (lw_at lw_m5 100 rfl) rfl
theorem q1183 : (Jvm.Cond.soleField "ExemptDesk$Asset" "bought") ∈ lw_all := lw_g (lw_at lw_m5 101 rfl) rfl
theorem q1184 : (Jvm.Cond.laysFinal "ExemptDesk$Asset" "ExemptDesk$Asset" "first" "I") ∈ lw_all := lw_g (lw_at lw_m5 102 rfl) rfl
theorem q1185 : (Jvm.Cond.soleField "ExemptDesk$Asset" "first") ∈ lw_all := lw_g (lw_at lw_m5 103 rfl) rfl
theorem q1186 : (Jvm.Cond.laysFinal "ExemptDesk$Asset" "ExemptDesk$Asset" "owner" "[I") ∈ lw_all := lw_g (lw_at lw_m5 104 rfl) rfl
theorem q1187 : (Jvm.Cond.soleField "ExemptDesk$Asset" "owner") ∈ lw_all := lw_g (lw_at lw_m5 105 rfl) rfl
theorem q1188 : (Jvm.Cond.laysFinal "ExemptDesk$Asset" "ExemptDesk$Asset" "worth" "[I") ∈ lw_all := lw_g (lw_at lw_m5 106 rfl) rfl
theorem q1189 : (Jvm.Cond.soleField "ExemptDesk$Asset" "worth") ∈ lw_all := lw_g (lw_at lw_m5 107 rfl) rfl
theorem q1190 : (Jvm.Cond.laysFinal "ExemptDesk$Asset" "ExemptDesk$Asset" "adjusted" "[I") ∈ lw_all := lw_g (lw_at lw_m5 108 rfl) rfl
theorem q1191 : (Jvm.Cond.soleField "ExemptDesk$Asset" "adjusted") ∈ lw_all := lw_g (lw_at lw_m5 109 rfl) rfl
theorem q1192 : (Jvm.Cond.lays "ExemptDesk$Asset" "ExemptDesk$Asset" "use" "I") ∈ lw_all := lw_g (lw_at lw_m5 110 rfl) rfl
theorem q1193 : (Jvm.Cond.soleField "ExemptDesk$Asset" "use") ∈ lw_all := lw_g (lw_at lw_m5 111 rfl) rfl
theorem q1194 : (Jvm.Cond.lays "ExemptDesk$Asset" "ExemptDesk$Asset" "base" "I") ∈ lw_all := lw_g (lw_at lw_m5 112 rfl) rfl
theorem q1195 : (Jvm.Cond.soleField "ExemptDesk$Asset" "base") ∈ lw_all := lw_g (lw_at lw_m5 113 rfl) rfl
theorem q1196 : (Jvm.Cond.lays "ExemptDesk$Asset" "ExemptDesk$Asset" "sold" "I") ∈ lw_all := lw_g (lw_at lw_m5 114 rfl) rfl
theorem q1197 : (Jvm.Cond.soleField "ExemptDesk$Asset" "sold") ∈ lw_all := lw_g (lw_at lw_m5 115 rfl) rfl
theorem q1198 : (Jvm.Cond.lays "ExemptDesk$Asset" "ExemptDesk$Asset" "cap" "I") ∈ lw_all := lw_g (lw_at lw_m5 116 rfl) rfl
theorem q1199 : (Jvm.Cond.soleField "ExemptDesk$Asset" "cap") ∈ lw_all := lw_g (lw_at lw_m5 117 rfl) rfl
theorem q1200 : (Jvm.Cond.lays "ExemptDesk$Asset" "ExemptDesk$Asset" "nextOwner" "I") ∈ lw_all := lw_g (lw_at lw_m5 118 rfl) rfl
theorem q1201 : (Jvm.Cond.soleField "ExemptDesk$Asset" "nextOwner") ∈ lw_all := lw_g (lw_at lw_m5 119 rfl) rfl
theorem q1202 : (Jvm.Cond.lays "ExemptDesk$Asset" "ExemptDesk$Asset" "last" "I") ∈ lw_all := lw_g (lw_at lw_m5 120 rfl) rfl
theorem q1203 : (Jvm.Cond.soleField "ExemptDesk$Asset" "last") ∈ lw_all := lw_g (lw_at lw_m5 121 rfl) rfl
theorem q1204 : (Jvm.Cond.lays "ExemptDesk$Asset" "ExemptDesk$Asset" "through" "I") ∈ lw_all := lw_g (lw_at lw_m5 122 rfl) rfl
theorem q1205 : (Jvm.Cond.soleField "ExemptDesk$Asset" "through") ∈ lw_all := lw_g (lw_at lw_m5 123 rfl) rfl
theorem q1206 : (Jvm.Cond.laysFinal "ExemptDesk$Asset" "ExemptDesk$Asset" "uses" "[I") ∈ lw_all := lw_g (lw_at lw_m5 124 rfl) rfl
theorem q1207 : (Jvm.Cond.soleField "ExemptDesk$Asset" "uses") ∈ lw_all := lw_g (lw_at lw_m5 125 rfl) rfl
theorem q1208 : (Jvm.Cond.lays "ExemptDesk$Asset" "ExemptDesk$Asset" "isShut" "Z") ∈ lw_all := lw_g (lw_at lw_m5 126 rfl) rfl
theorem q1209 : (Jvm.Cond.soleField "ExemptDesk$Asset" "isShut") ∈ lw_all := lw_g (lw_at lw_m5 127 rfl) rfl
theorem q1210 : (Jvm.Cond.superclass "ExemptDesk$Asset" "java/lang/Object") ∈ lw_all := lw_g (lw_at lw_m5 128 rfl) rfl
theorem q1678 : (Jvm.Cond.instanceMethod ({ cls := "ExemptDesk$Asset", name := "copy", desc := "()LExemptDesk$Asset;" } : Jvm.MethodName)) ∈ lw_all := lw_g (lw_at lw_m7 116 rfl) rfl
theorem q1679 : (Jvm.Cond.selects "ExemptDesk$Asset" ({ cls := "ExemptDesk$Asset", name := "copy", desc := "()LExemptDesk$Asset;" } : Jvm.MethodName) ({ cls := "ExemptDesk$Asset", name := "copy", desc := "()LExemptDesk$Asset;" } : Jvm.MethodName)) ∈ lw_all := lw_g (lw_at lw_m7 117 rfl) rfl
theorem q1680 : (Jvm.Cond.code ({ cls := "ExemptDesk$Asset", name := "copy", desc := "()LExemptDesk$Asset;" } : Jvm.MethodName) prog_2_method_2_code (3 : Nat) (Option.some (Jvm.ClassFile.FieldType.object "ExemptDesk$Asset"))) ∈ lw_all := lw_g (lw_at lw_m7 118 rfl) rfl
theorem q1681 : (Jvm.Cond.classLink "ExemptDesk$Asset" (10 : Nat) "ExemptDesk$Asset") ∈ lw_all := lw_g (lw_at lw_m7 119 rfl) rfl
theorem q1682 : (Jvm.Cond.methodLink "ExemptDesk$Asset" (59 : Nat) ({ cls := "ExemptDesk$Asset", name := "<init>", desc := "(IIIIII)V" } : Jvm.MethodName)) ∈ lw_all := lw_g (lw_at lw_m7 120 rfl) rfl
theorem q1806 : (Jvm.Cond.instanceMethod ({ cls := "ExemptDesk$Asset", name := "isOpen", desc := "()Z" } : Jvm.MethodName)) ∈ lw_all := lw_g (lw_at lw_m8 4 rfl) rfl
theorem q1807 : (Jvm.Cond.selects "ExemptDesk$Asset" ({ cls := "ExemptDesk$Asset", name := "isOpen", desc := "()Z" } : Jvm.MethodName) ({ cls := "ExemptDesk$Asset", name := "isOpen", desc := "()Z" } : Jvm.MethodName)) ∈ lw_all := lw_g (lw_at lw_m8 5 rfl) rfl
theorem q1808 : (Jvm.Cond.code ({ cls := "ExemptDesk$Asset", name := "isOpen", desc := "()Z" } : Jvm.MethodName) prog_2_method_3_code (1 : Nat) (Option.some Jvm.ClassFile.FieldType.boolean)) ∈ lw_all := lw_g (lw_at lw_m8 6 rfl) rfl
theorem q1815 : (Jvm.Cond.instanceMethod ({ cls := "ExemptDesk$Asset", name := "interval", desc := "(I)I" } : Jvm.MethodName)) ∈ lw_all := lw_g (lw_at lw_m8 13 rfl) rfl
theorem q1816 : (Jvm.Cond.selects "ExemptDesk$Asset" ({ cls := "ExemptDesk$Asset", name := "interval", desc := "(I)I" } : Jvm.MethodName) ({ cls := "ExemptDesk$Asset", name := "interval", desc := "(I)I" } : Jvm.MethodName)) ∈ lw_all := lw_g (lw_at lw_m8 14 rfl) rfl
theorem q1817 : (Jvm.Cond.code ({ cls := "ExemptDesk$Asset", name := "interval", desc := "(I)I" } : Jvm.MethodName) prog_2_method_4_code (2 : Nat) (Option.some Jvm.ClassFile.FieldType.int)) ∈ lw_all := lw_g (lw_at lw_m8 15 rfl) rfl
theorem q1956 : (Jvm.Cond.instanceMethod ({ cls := "ExemptDesk$Asset", name := "share", desc := "(IIIILExemptDesk$Way;)J" } : Jvm.MethodName)) ∈ lw_all := lw_g (lw_at lw_m8 154 rfl) rfl
theorem q1957 : (Jvm.Cond.selects "ExemptDesk$Asset" ({ cls := "ExemptDesk$Asset", name := "share", desc := "(IIIILExemptDesk$Way;)J" } : Jvm.MethodName) ({ cls := "ExemptDesk$Asset", name := "share", desc := "(IIIILExemptDesk$Way;)J" } : Jvm.MethodName)) ∈ lw_all := lw_g (lw_at lw_m8 155 rfl) rfl
theorem q1958 : (Jvm.Cond.code ({ cls := "ExemptDesk$Asset", name := "share", desc := "(IIIILExemptDesk$Way;)J" } : Jvm.MethodName) prog_2_method_5_code (6 : Nat) (Option.some Jvm.ClassFile.FieldType.long)) ∈ lw_all := lw_g (lw_at lw_m8 156 rfl) rfl
theorem q1959 : (Jvm.Cond.methodLink "ExemptDesk$Asset" (69 : Nat) ({ cls := "ExemptDesk$Way", name := "cut", desc := "(JJ)I" } : Jvm.MethodName)) ∈ lw_all := lw_g (lw_at lw_m8 157 rfl) rfl
theorem q2984 : (Jvm.Cond.castable "ExemptDesk$Asset" "java/lang/Object") ∈ lw_tbl := lw_at lw_m12 222 rfl

abbrev cX10_init : ByteArray := prog_15_method_1_code
def yX10_init : MethodName := ⟨RX10, "<init>", "(II)V"⟩
def dkwX10_init_0 : List UInt8 := [42, 1, 1, 3, 3, 183, 0, 1, 42, 27, 181, 0, 7, 42, 28, 181, 0, 13, 177]
abbrev dktX10_init_0 : List UInt8 := dkwX10_init_0 ++ []
theorem dksX10_init_0 : cX10_init.data.toList.drop 0 = dktX10_init_0 := by decide +kernel
theorem dX10_init_0 : decode cX10_init 0 = .ok (.aload_n 0, 1) := dk_42 (dk_at dksX10_init_0 0 rfl rfl)
theorem dX10_init_1 : decode cX10_init 1 = .ok (.aconst_null, 1) := dk_1 (dk_at dksX10_init_0 1 rfl rfl)
theorem dX10_init_2 : decode cX10_init 2 = .ok (.aconst_null, 1) := dk_1 (dk_at dksX10_init_0 2 rfl rfl)
theorem dX10_init_3 : decode cX10_init 3 = .ok (.iconst 0, 1) := dk_3 (dk_at dksX10_init_0 3 rfl rfl)
theorem dX10_init_4 : decode cX10_init 4 = .ok (.iconst 0, 1) := dk_3 (dk_at dksX10_init_0 4 rfl rfl)
theorem dX10_init_5 : decode cX10_init 5 = .ok (.invokespecial 1, 3) := dk_183 0 1 (dk_at dksX10_init_0 5 rfl rfl)
theorem dX10_init_8 : decode cX10_init 8 = .ok (.aload_n 0, 1) := dk_42 (dk_at dksX10_init_0 8 rfl rfl)
theorem dX10_init_9 : decode cX10_init 9 = .ok (.iload_n 1, 1) := dk_27 (dk_at dksX10_init_0 9 rfl rfl)
theorem dX10_init_10 : decode cX10_init 10 = .ok (.putfield 7, 3) := dk_181 0 7 (dk_at dksX10_init_0 10 rfl rfl)
theorem dX10_init_13 : decode cX10_init 13 = .ok (.aload_n 0, 1) := dk_42 (dk_at dksX10_init_0 13 rfl rfl)
theorem dX10_init_14 : decode cX10_init 14 = .ok (.iload_n 2, 1) := dk_28 (dk_at dksX10_init_0 14 rfl rfl)
theorem dX10_init_15 : decode cX10_init 15 = .ok (.putfield 13, 3) := dk_181 0 13 (dk_at dksX10_init_0 15 rfl rfl)
theorem dX10_init_18 : decode cX10_init 18 = .ok (.return_, 1) := dk_177 (dk_at dksX10_init_0 18 rfl rfl)
theorem q166 : (Jvm.Cond.initialized "ExemptDesk$Wrong") ∈ lw_all := lw_g (lw_at lw_m1 44 rfl) rfl
theorem q229 : (Jvm.Cond.selects "ExemptDesk$Wrong" ({ cls := "java/lang/Object", name := "getClass", desc := "()Ljava/lang/Class;" } : Jvm.MethodName) ({ cls := "java/lang/Object", name := "getClass", desc := "()Ljava/lang/Class;" } : Jvm.MethodName)) ∈ lw_all := lw_g (lw_at lw_m1 107 rfl) rfl
theorem q636 : (Jvm.Cond.selects "ExemptDesk$Wrong" ({ cls := "java/lang/Throwable", name := "fillInStackTrace", desc := "()Ljava/lang/Throwable;" } : Jvm.MethodName) ({ cls := "java/lang/Throwable", name := "fillInStackTrace", desc := "()Ljava/lang/Throwable;" } : Jvm.MethodName)) ∈ lw_all := lw_g (lw_at lw_m3 34 rfl) rfl
theorem q1040 : (Jvm.Cond.selects "ExemptDesk$Wrong" ({ cls := "java/lang/Throwable", name := "toString", desc := "()Ljava/lang/String;" } : Jvm.MethodName) ({ cls := "java/lang/Throwable", name := "toString", desc := "()Ljava/lang/String;" } : Jvm.MethodName)) ∈ lw_all := lw_g (lw_at lw_m4 198 rfl) rfl
theorem q1051 : (Jvm.Cond.selects "ExemptDesk$Wrong" ({ cls := "java/lang/Throwable", name := "getLocalizedMessage", desc := "()Ljava/lang/String;" } : Jvm.MethodName) ({ cls := "java/lang/Throwable", name := "getLocalizedMessage", desc := "()Ljava/lang/String;" } : Jvm.MethodName)) ∈ lw_all := lw_g (lw_at lw_m4 209 rfl) rfl
theorem q1061 : (Jvm.Cond.selects "ExemptDesk$Wrong" ({ cls := "java/lang/Throwable", name := "getMessage", desc := "()Ljava/lang/String;" } : Jvm.MethodName) ({ cls := "java/lang/Throwable", name := "getMessage", desc := "()Ljava/lang/String;" } : Jvm.MethodName)) ∈ lw_all := lw_g (lw_at lw_m4 219 rfl) rfl
theorem q1375 : (Jvm.Cond.instantiable "ExemptDesk$Wrong" (8 : Nat)) ∈ lw_all := lw_g (lw_at lw_m6 53 rfl) rfl
theorem q1376 : (Jvm.Cond.castable "ExemptDesk$Wrong" "ExemptDesk$Wrong") ∈ lw_tbl := lw_at lw_m6 54 rfl
theorem q1377 : (Jvm.Cond.selects "ExemptDesk$Wrong" ({ cls := "java/lang/Throwable", name := "fillInStackTrace", desc := "(I)Ljava/lang/Throwable;" } : Jvm.MethodName) ({ cls := "java/lang/Throwable", name := "fillInStackTrace", desc := "(I)Ljava/lang/Throwable;" } : Jvm.MethodName)) ∈ lw_all := lw_g (lw_at lw_m6 55 rfl) rfl
theorem q1378 : (Jvm.Cond.lays "ExemptDesk$Wrong" "java/lang/Throwable" "cause" "Ljava/lang/Throwable;") ∈ lw_all := lw_g (lw_at lw_m6 56 rfl) rfl
theorem q1379 : (Jvm.Cond.lays "ExemptDesk$Wrong" "java/lang/Throwable" "stackTrace" "[Ljava/lang/StackTraceElement;") ∈ lw_all := lw_g (lw_at lw_m6 57 rfl) rfl
theorem q1380 : (Jvm.Cond.lays "ExemptDesk$Wrong" "java/lang/Throwable" "suppressedExceptions" "Ljava/util/List;") ∈ lw_all := lw_g (lw_at lw_m6 58 rfl) rfl
theorem q1381 : (Jvm.Cond.lays "ExemptDesk$Wrong" "java/lang/Throwable" "detailMessage" "Ljava/lang/String;") ∈ lw_all := lw_g (lw_at lw_m6 59 rfl) rfl
theorem q1382 : (Jvm.Cond.lays "ExemptDesk$Wrong" "java/lang/Throwable" "backtrace" "Ljava/lang/Object;") ∈ lw_all := lw_g (lw_at lw_m6 60 rfl) rfl
theorem q1384 : (Jvm.Cond.instanceMethod ({ cls := "ExemptDesk$Wrong", name := "<init>", desc := "(II)V" } : Jvm.MethodName)) ∈ lw_all := lw_g (lw_at lw_m6 62 rfl) rfl
theorem q1385 : (Jvm.Cond.code ({ cls := "ExemptDesk$Wrong", name := "<init>", desc := "(II)V" } : Jvm.MethodName) prog_15_method_1_code (3 : Nat) (Option.none : Option Jvm.ClassFile.FieldType)) ∈ lw_all := lw_g (lw_at lw_m6 63 rfl) rfl
theorem q1386 : (Jvm.Cond.methodLink "ExemptDesk$Wrong" (1 : Nat) ({ cls := "java/lang/Exception", name := "<init>", desc := "(Ljava/lang/String;Ljava/lang/Throwable;ZZ)V" } : Jvm.MethodName)) ∈ lw_all := lw_g (lw_at lw_m6 64 rfl) rfl
theorem q1392 : (Jvm.Cond.fieldLink "ExemptDesk$Wrong" (7 : Nat) "ExemptDesk$Wrong" "kind" "I") ∈ lw_all := lw_g (lw_at lw_m6 70 rfl) rfl
theorem q1394 : (Jvm.Cond.fieldLink "ExemptDesk$Wrong" (13 : Nat) "ExemptDesk$Wrong" "place" "I") ∈ lw_all := lw_g (lw_at lw_m6 72 rfl) rfl
theorem q1396 : (Jvm.Cond.laysFinal "ExemptDesk$Wrong" "ExemptDesk$Wrong" "kind" "I") ∈ lw_all := lw_g (lw_at lw_m6 74 rfl) rfl
theorem q1397 : (Jvm.Cond.soleField "ExemptDesk$Wrong" "kind") ∈ lw_all := lw_g (lw_at lw_m6 75 rfl) rfl
theorem q1398 : (Jvm.Cond.laysFinal "ExemptDesk$Wrong" "ExemptDesk$Wrong" "place" "I") ∈ lw_all := lw_g (lw_at lw_m6 76 rfl) rfl
theorem q1399 : (Jvm.Cond.soleField "ExemptDesk$Wrong" "place") ∈ lw_all := lw_g (lw_at lw_m6 77 rfl) rfl
theorem q1400 : (Jvm.Cond.lays "ExemptDesk$Wrong" "java/lang/Throwable" "depth" "I") ∈ lw_all := lw_g (lw_at lw_m6 78 rfl) rfl
theorem q1401 : (Jvm.Cond.superclass "ExemptDesk$Wrong" "java/lang/Exception") ∈ lw_all := lw_g (lw_at lw_m6 79 rfl) rfl
theorem q2987 : (Jvm.Cond.castable "ExemptDesk$Wrong" "java/lang/Object") ∈ lw_tbl := lw_at lw_m12 225 rfl

abbrev cX11_init : ByteArray := prog_13_method_1_code
def yX11_init : MethodName := ⟨RX11, "<init>", "(III)V"⟩
def dkwX11_init_1 : List UInt8 := [42, 29, 181, 0, 24, 177]
abbrev dktX11_init_1 : List UInt8 := dkwX11_init_1 ++ []
def dkwX11_init_0 : List UInt8 := [42, 183, 0, 3, 42, 2, 181, 0, 9, 42, 2, 181, 0, 15, 42, 27, 181, 0, 18, 42, 28, 181, 0, 21]
abbrev dktX11_init_0 : List UInt8 := dkwX11_init_0 ++ dktX11_init_1
theorem dksX11_init_0 : cX11_init.data.toList.drop 0 = dktX11_init_0 := by decide +kernel
theorem dksX11_init_1 : cX11_init.data.toList.drop 24 = dktX11_init_1 := dk_seg dksX11_init_0 24 rfl rfl
theorem dX11_init_0 : decode cX11_init 0 = .ok (.aload_n 0, 1) := dk_42 (dk_at dksX11_init_0 0 rfl rfl)
theorem dX11_init_1 : decode cX11_init 1 = .ok (.invokespecial 3, 3) := dk_183 0 3 (dk_at dksX11_init_0 1 rfl rfl)
theorem dX11_init_4 : decode cX11_init 4 = .ok (.aload_n 0, 1) := dk_42 (dk_at dksX11_init_0 4 rfl rfl)
theorem dX11_init_5 : decode cX11_init 5 = .ok (.iconst (-1), 1) := dk_2 (dk_at dksX11_init_0 5 rfl rfl)
theorem dX11_init_6 : decode cX11_init 6 = .ok (.putfield 9, 3) := dk_181 0 9 (dk_at dksX11_init_0 6 rfl rfl)
theorem dX11_init_9 : decode cX11_init 9 = .ok (.aload_n 0, 1) := dk_42 (dk_at dksX11_init_0 9 rfl rfl)
theorem dX11_init_10 : decode cX11_init 10 = .ok (.iconst (-1), 1) := dk_2 (dk_at dksX11_init_0 10 rfl rfl)
theorem dX11_init_11 : decode cX11_init 11 = .ok (.putfield 15, 3) := dk_181 0 15 (dk_at dksX11_init_0 11 rfl rfl)
theorem dX11_init_14 : decode cX11_init 14 = .ok (.aload_n 0, 1) := dk_42 (dk_at dksX11_init_0 14 rfl rfl)
theorem dX11_init_15 : decode cX11_init 15 = .ok (.iload_n 1, 1) := dk_27 (dk_at dksX11_init_0 15 rfl rfl)
theorem dX11_init_16 : decode cX11_init 16 = .ok (.putfield 18, 3) := dk_181 0 18 (dk_at dksX11_init_0 16 rfl rfl)
theorem dX11_init_19 : decode cX11_init 19 = .ok (.aload_n 0, 1) := dk_42 (dk_at dksX11_init_0 19 rfl rfl)
theorem dX11_init_20 : decode cX11_init 20 = .ok (.iload_n 2, 1) := dk_28 (dk_at dksX11_init_0 20 rfl rfl)
theorem dX11_init_21 : decode cX11_init 21 = .ok (.putfield 21, 3) := dk_181 0 21 (dk_at dksX11_init_0 21 rfl rfl)
theorem dX11_init_24 : decode cX11_init 24 = .ok (.aload_n 0, 1) := dk_42 (dk_at dksX11_init_1 0 rfl rfl)
theorem dX11_init_25 : decode cX11_init 25 = .ok (.iload_n 3, 1) := dk_29 (dk_at dksX11_init_1 1 rfl rfl)
theorem dX11_init_26 : decode cX11_init 26 = .ok (.putfield 24, 3) := dk_181 0 24 (dk_at dksX11_init_1 2 rfl rfl)
theorem dX11_init_29 : decode cX11_init 29 = .ok (.return_, 1) := dk_177 (dk_at dksX11_init_1 5 rfl rfl)
theorem q167 : (Jvm.Cond.initialized "ExemptDesk$Trader") ∈ lw_all := lw_g (lw_at lw_m1 45 rfl) rfl
theorem q227 : (Jvm.Cond.selects "ExemptDesk$Trader" ({ cls := "java/lang/Object", name := "getClass", desc := "()Ljava/lang/Class;" } : Jvm.MethodName) ({ cls := "java/lang/Object", name := "getClass", desc := "()Ljava/lang/Class;" } : Jvm.MethodName)) ∈ lw_all := lw_g (lw_at lw_m1 105 rfl) rfl
theorem q1429 : (Jvm.Cond.instantiable "ExemptDesk$Trader" (6 : Nat)) ∈ lw_all := lw_g (lw_at lw_m6 107 rfl) rfl
theorem q1431 : (Jvm.Cond.instanceMethod ({ cls := "ExemptDesk$Trader", name := "<init>", desc := "(III)V" } : Jvm.MethodName)) ∈ lw_all := lw_g (lw_at lw_m6 109 rfl) rfl
theorem q1432 : (Jvm.Cond.code ({ cls := "ExemptDesk$Trader", name := "<init>", desc := "(III)V" } : Jvm.MethodName) prog_13_method_1_code (4 : Nat) (Option.none : Option Jvm.ClassFile.FieldType)) ∈ lw_all := lw_g (lw_at lw_m6 110 rfl) rfl
theorem q1433 : (Jvm.Cond.methodLink "ExemptDesk$Trader" (3 : Nat) ({ cls := "java/lang/Object", name := "<init>", desc := "()V" } : Jvm.MethodName)) ∈ lw_all := lw_g (lw_at lw_m6 111 rfl) rfl
theorem q1434 : (Jvm.Cond.fieldLink "ExemptDesk$Trader" (18 : Nat) "ExemptDesk$Trader" "name" "I") ∈ lw_all := lw_g (lw_at lw_m6 112 rfl) rfl
theorem q1436 : (Jvm.Cond.fieldLink "ExemptDesk$Trader" (21 : Nat) "ExemptDesk$Trader" "method" "I") ∈ lw_all := lw_g (lw_at lw_m6 114 rfl) rfl
theorem q1439 : (Jvm.Cond.fieldLink "ExemptDesk$Trader" (24 : Nat) "ExemptDesk$Trader" "basis" "I") ∈ lw_all := lw_g (lw_at lw_m6 117 rfl) rfl
theorem q1442 : (Jvm.Cond.fieldLink "ExemptDesk$Trader" (9 : Nat) "ExemptDesk$Trader" "own" "I") ∈ lw_all := lw_g (lw_at lw_m6 120 rfl) rfl
theorem q1447 : (Jvm.Cond.fieldLink "ExemptDesk$Trader" (15 : Nat) "ExemptDesk$Trader" "start" "I") ∈ lw_all := lw_g (lw_at lw_m6 125 rfl) rfl
theorem q1451 : (Jvm.Cond.laysFinal "ExemptDesk$Trader" "ExemptDesk$Trader" "name" "I") ∈ lw_all := lw_g (lw_at lw_m6 129 rfl) rfl
theorem q1452 : (Jvm.Cond.soleField "ExemptDesk$Trader" "name") ∈ lw_all := lw_g (lw_at lw_m6 130 rfl) rfl
theorem q1453 : (Jvm.Cond.laysFinal "ExemptDesk$Trader" "ExemptDesk$Trader" "method" "I") ∈ lw_all := lw_g (lw_at lw_m6 131 rfl) rfl
theorem q1454 : (Jvm.Cond.soleField "ExemptDesk$Trader" "method") ∈ lw_all := lw_g (lw_at lw_m6 132 rfl) rfl
theorem q1455 : (Jvm.Cond.laysFinal "ExemptDesk$Trader" "ExemptDesk$Trader" "basis" "I") ∈ lw_all := lw_g (lw_at lw_m6 133 rfl) rfl
theorem q1456 : (Jvm.Cond.soleField "ExemptDesk$Trader" "basis") ∈ lw_all := lw_g (lw_at lw_m6 134 rfl) rfl
theorem q1457 : (Jvm.Cond.lays "ExemptDesk$Trader" "ExemptDesk$Trader" "own" "I") ∈ lw_all := lw_g (lw_at lw_m6 135 rfl) rfl
theorem q1458 : (Jvm.Cond.soleField "ExemptDesk$Trader" "own") ∈ lw_all := lw_g (lw_at lw_m6 136 rfl) rfl
theorem q1459 : (Jvm.Cond.lays "ExemptDesk$Trader" "ExemptDesk$Trader" "all" "I") ∈ lw_all := lw_g (lw_at lw_m6 137 rfl) rfl
theorem q1460 : (Jvm.Cond.soleField "ExemptDesk$Trader" "all") ∈ lw_all := lw_g (lw_at lw_m6 138 rfl) rfl
theorem q1461 : (Jvm.Cond.lays "ExemptDesk$Trader" "ExemptDesk$Trader" "start" "I") ∈ lw_all := lw_g (lw_at lw_m6 139 rfl) rfl
theorem q1462 : (Jvm.Cond.soleField "ExemptDesk$Trader" "start") ∈ lw_all := lw_g (lw_at lw_m6 140 rfl) rfl
theorem q1463 : (Jvm.Cond.superclass "ExemptDesk$Trader" "java/lang/Object") ∈ lw_all := lw_g (lw_at lw_m6 141 rfl) rfl
theorem q2988 : (Jvm.Cond.castable "ExemptDesk$Trader" "java/lang/Object") ∈ lw_tbl := lw_at lw_m12 226 rfl

abbrev cX12_init : ByteArray := prog_11_method_1_code
def yX12_init : MethodName := ⟨RX12, "<init>", "(IIII)V"⟩
def dkwX12_init_1 : List UInt8 := [181, 0, 19, 177]
abbrev dktX12_init_1 : List UInt8 := dkwX12_init_1 ++ []
def dkwX12_init_0 : List UInt8 := [42, 183, 0, 1, 42, 27, 181, 0, 7, 42, 28, 181, 0, 13, 42, 29, 181, 0, 16, 42, 21, 4]
abbrev dktX12_init_0 : List UInt8 := dkwX12_init_0 ++ dktX12_init_1
theorem dksX12_init_0 : cX12_init.data.toList.drop 0 = dktX12_init_0 := by decide +kernel
theorem dksX12_init_1 : cX12_init.data.toList.drop 22 = dktX12_init_1 := dk_seg dksX12_init_0 22 rfl rfl
theorem dX12_init_0 : decode cX12_init 0 = .ok (.aload_n 0, 1) := dk_42 (dk_at dksX12_init_0 0 rfl rfl)
theorem dX12_init_1 : decode cX12_init 1 = .ok (.invokespecial 1, 3) := dk_183 0 1 (dk_at dksX12_init_0 1 rfl rfl)
theorem dX12_init_4 : decode cX12_init 4 = .ok (.aload_n 0, 1) := dk_42 (dk_at dksX12_init_0 4 rfl rfl)
theorem dX12_init_5 : decode cX12_init 5 = .ok (.iload_n 1, 1) := dk_27 (dk_at dksX12_init_0 5 rfl rfl)
theorem dX12_init_6 : decode cX12_init 6 = .ok (.putfield 7, 3) := dk_181 0 7 (dk_at dksX12_init_0 6 rfl rfl)
theorem dX12_init_9 : decode cX12_init 9 = .ok (.aload_n 0, 1) := dk_42 (dk_at dksX12_init_0 9 rfl rfl)
theorem dX12_init_10 : decode cX12_init 10 = .ok (.iload_n 2, 1) := dk_28 (dk_at dksX12_init_0 10 rfl rfl)
theorem dX12_init_11 : decode cX12_init 11 = .ok (.putfield 13, 3) := dk_181 0 13 (dk_at dksX12_init_0 11 rfl rfl)
theorem dX12_init_14 : decode cX12_init 14 = .ok (.aload_n 0, 1) := dk_42 (dk_at dksX12_init_0 14 rfl rfl)
theorem dX12_init_15 : decode cX12_init 15 = .ok (.iload_n 3, 1) := dk_29 (dk_at dksX12_init_0 15 rfl rfl)
theorem dX12_init_16 : decode cX12_init 16 = .ok (.putfield 16, 3) := dk_181 0 16 (dk_at dksX12_init_0 16 rfl rfl)
theorem dX12_init_19 : decode cX12_init 19 = .ok (.aload_n 0, 1) := dk_42 (dk_at dksX12_init_0 19 rfl rfl)
theorem dX12_init_20 : decode cX12_init 20 = .ok (.iload 4, 2) := dk_21 4 (dk_at dksX12_init_0 20 rfl rfl)
theorem dX12_init_22 : decode cX12_init 22 = .ok (.putfield 19, 3) := dk_181 0 19 (dk_at dksX12_init_1 0 rfl rfl)
theorem dX12_init_25 : decode cX12_init 25 = .ok (.return_, 1) := dk_177 (dk_at dksX12_init_1 3 rfl rfl)
theorem q168 : (Jvm.Cond.initialized "ExemptDesk$Told") ∈ lw_all := lw_g (lw_at lw_m1 46 rfl) rfl
theorem q225 : (Jvm.Cond.selects "ExemptDesk$Told" ({ cls := "java/lang/Object", name := "getClass", desc := "()Ljava/lang/Class;" } : Jvm.MethodName) ({ cls := "java/lang/Object", name := "getClass", desc := "()Ljava/lang/Class;" } : Jvm.MethodName)) ∈ lw_all := lw_g (lw_at lw_m1 103 rfl) rfl
theorem q1492 : (Jvm.Cond.instantiable "ExemptDesk$Told" (4 : Nat)) ∈ lw_all := lw_g (lw_at lw_m6 170 rfl) rfl
theorem q1494 : (Jvm.Cond.instanceMethod ({ cls := "ExemptDesk$Told", name := "<init>", desc := "(IIII)V" } : Jvm.MethodName)) ∈ lw_all := lw_g (lw_at lw_m6 172 rfl) rfl
theorem q1495 : (Jvm.Cond.code ({ cls := "ExemptDesk$Told", name := "<init>", desc := "(IIII)V" } : Jvm.MethodName) prog_11_method_1_code (5 : Nat) (Option.none : Option Jvm.ClassFile.FieldType)) ∈ lw_all := lw_g (lw_at lw_m6 173 rfl) rfl
theorem q1496 : (Jvm.Cond.methodLink "ExemptDesk$Told" (1 : Nat) ({ cls := "java/lang/Object", name := "<init>", desc := "()V" } : Jvm.MethodName)) ∈ lw_all := lw_g (lw_at lw_m6 174 rfl) rfl
theorem q1497 : (Jvm.Cond.fieldLink "ExemptDesk$Told" (7 : Nat) "ExemptDesk$Told" "trader" "I") ∈ lw_all := lw_g (lw_at lw_m6 175 rfl) rfl
theorem q1502 : (Jvm.Cond.fieldLink "ExemptDesk$Told" (13 : Nat) "ExemptDesk$Told" "quarter" "I") ∈ lw_all := lw_g (lw_at lw_m6 180 rfl) rfl
theorem q1507 : (Jvm.Cond.fieldLink "ExemptDesk$Told" (16 : Nat) "ExemptDesk$Told" "kind" "I") ∈ lw_all := lw_g (lw_at lw_m6 185 rfl) rfl
theorem q1512 : (Jvm.Cond.fieldLink "ExemptDesk$Told" (19 : Nat) "ExemptDesk$Told" "amount" "I") ∈ lw_all := lw_g (lw_at lw_m6 190 rfl) rfl
theorem q1517 : (Jvm.Cond.laysFinal "ExemptDesk$Told" "ExemptDesk$Told" "trader" "I") ∈ lw_all := lw_g (lw_at lw_m6 195 rfl) rfl
theorem q1518 : (Jvm.Cond.soleField "ExemptDesk$Told" "trader") ∈ lw_all := lw_g (lw_at lw_m6 196 rfl) rfl
theorem q1519 : (Jvm.Cond.laysFinal "ExemptDesk$Told" "ExemptDesk$Told" "quarter" "I") ∈ lw_all := lw_g (lw_at lw_m6 197 rfl) rfl
theorem q1520 : (Jvm.Cond.soleField "ExemptDesk$Told" "quarter") ∈ lw_all := lw_g (lw_at lw_m6 198 rfl) rfl
theorem q1521 : (Jvm.Cond.laysFinal "ExemptDesk$Told" "ExemptDesk$Told" "kind" "I") ∈ lw_all := lw_g (lw_at lw_m6 199 rfl) rfl
theorem q1522 : (Jvm.Cond.soleField "ExemptDesk$Told" "kind") ∈ lw_all := lw_g (lw_at lw_m6 200 rfl) rfl
theorem q1523 : (Jvm.Cond.laysFinal "ExemptDesk$Told" "ExemptDesk$Told" "amount" "I") ∈ lw_all := lw_g (lw_at lw_m6 201 rfl) rfl
theorem q1524 : (Jvm.Cond.soleField "ExemptDesk$Told" "amount") ∈ lw_all := lw_g (lw_at lw_m6 202 rfl) rfl
theorem q1525 : (Jvm.Cond.superclass "ExemptDesk$Told" "java/lang/Object") ∈ lw_all := lw_g (lw_at lw_m6 203 rfl) rfl
theorem q2989 : (Jvm.Cond.castable "ExemptDesk$Told" "java/lang/Object") ∈ lw_tbl := lw_at lw_m12 227 rfl

abbrev cX13_init : ByteArray := prog_12_method_1_code
def yX13_init : MethodName := ⟨RX13, "<init>", "(IIIII)V"⟩
def dkwX13_init_0 : List UInt8 := [42, 27, 28, 29, 21, 4, 183, 0, 1, 42, 21, 5, 181, 0, 7, 177]
abbrev dktX13_init_0 : List UInt8 := dkwX13_init_0 ++ []
theorem dksX13_init_0 : cX13_init.data.toList.drop 0 = dktX13_init_0 := by decide +kernel
theorem dX13_init_0 : decode cX13_init 0 = .ok (.aload_n 0, 1) := dk_42 (dk_at dksX13_init_0 0 rfl rfl)
theorem dX13_init_1 : decode cX13_init 1 = .ok (.iload_n 1, 1) := dk_27 (dk_at dksX13_init_0 1 rfl rfl)
theorem dX13_init_2 : decode cX13_init 2 = .ok (.iload_n 2, 1) := dk_28 (dk_at dksX13_init_0 2 rfl rfl)
theorem dX13_init_3 : decode cX13_init 3 = .ok (.iload_n 3, 1) := dk_29 (dk_at dksX13_init_0 3 rfl rfl)
theorem dX13_init_4 : decode cX13_init 4 = .ok (.iload 4, 2) := dk_21 4 (dk_at dksX13_init_0 4 rfl rfl)
theorem dX13_init_6 : decode cX13_init 6 = .ok (.invokespecial 1, 3) := dk_183 0 1 (dk_at dksX13_init_0 6 rfl rfl)
theorem dX13_init_9 : decode cX13_init 9 = .ok (.aload_n 0, 1) := dk_42 (dk_at dksX13_init_0 9 rfl rfl)
theorem dX13_init_10 : decode cX13_init 10 = .ok (.iload 5, 2) := dk_21 5 (dk_at dksX13_init_0 10 rfl rfl)
theorem dX13_init_12 : decode cX13_init 12 = .ok (.putfield 7, 3) := dk_181 0 7 (dk_at dksX13_init_0 12 rfl rfl)
theorem dX13_init_15 : decode cX13_init 15 = .ok (.return_, 1) := dk_177 (dk_at dksX13_init_0 15 rfl rfl)
theorem q169 : (Jvm.Cond.initialized "ExemptDesk$ToldAsset") ∈ lw_all := lw_g (lw_at lw_m1 47 rfl) rfl
theorem q226 : (Jvm.Cond.selects "ExemptDesk$ToldAsset" ({ cls := "java/lang/Object", name := "getClass", desc := "()Ljava/lang/Class;" } : Jvm.MethodName) ({ cls := "java/lang/Object", name := "getClass", desc := "()Ljava/lang/Class;" } : Jvm.MethodName)) ∈ lw_all := lw_g (lw_at lw_m1 104 rfl) rfl
theorem q1499 : (Jvm.Cond.sameField "ExemptDesk$ToldAsset" "ExemptDesk$Told" "trader" "I") ∈ lw_all := lw_g (lw_at lw_m6 177 rfl) rfl
theorem q1504 : (Jvm.Cond.sameField "ExemptDesk$ToldAsset" "ExemptDesk$Told" "quarter" "I") ∈ lw_all := lw_g (lw_at lw_m6 182 rfl) rfl
theorem q1509 : (Jvm.Cond.sameField "ExemptDesk$ToldAsset" "ExemptDesk$Told" "kind" "I") ∈ lw_all := lw_g (lw_at lw_m6 187 rfl) rfl
theorem q1514 : (Jvm.Cond.sameField "ExemptDesk$ToldAsset" "ExemptDesk$Told" "amount" "I") ∈ lw_all := lw_g (lw_at lw_m6 192 rfl) rfl
theorem q1534 : (Jvm.Cond.instantiable "ExemptDesk$ToldAsset" (5 : Nat)) ∈ lw_all := lw_g (lw_at lw_m6 212 rfl) rfl
theorem q1536 : (Jvm.Cond.instanceMethod ({ cls := "ExemptDesk$ToldAsset", name := "<init>", desc := "(IIIII)V" } : Jvm.MethodName)) ∈ lw_all := lw_g (lw_at lw_m6 214 rfl) rfl
theorem q1537 : (Jvm.Cond.code ({ cls := "ExemptDesk$ToldAsset", name := "<init>", desc := "(IIIII)V" } : Jvm.MethodName) prog_12_method_1_code (6 : Nat) (Option.none : Option Jvm.ClassFile.FieldType)) ∈ lw_all := lw_g (lw_at lw_m6 215 rfl) rfl
theorem q1538 : (Jvm.Cond.methodLink "ExemptDesk$ToldAsset" (1 : Nat) ({ cls := "ExemptDesk$Told", name := "<init>", desc := "(IIII)V" } : Jvm.MethodName)) ∈ lw_all := lw_g (lw_at lw_m6 216 rfl) rfl
theorem q1539 : (Jvm.Cond.fieldLink "ExemptDesk$ToldAsset" (7 : Nat) "ExemptDesk$ToldAsset" "intervals" "I") ∈ lw_all := lw_g (lw_at lw_m6 217 rfl) rfl
theorem q1541 : (Jvm.Cond.laysFinal "ExemptDesk$ToldAsset" "ExemptDesk$ToldAsset" "intervals" "I") ∈ lw_all := lw_g (lw_at lw_m6 219 rfl) rfl
theorem q1542 : (Jvm.Cond.soleField "ExemptDesk$ToldAsset" "intervals") ∈ lw_all := lw_g (lw_at lw_m6 220 rfl) rfl
theorem q1543 : (Jvm.Cond.laysFinal "ExemptDesk$ToldAsset" "ExemptDesk$Told" "trader" "I") ∈ lw_all := lw_g (lw_at lw_m6 221 rfl) rfl
theorem q1544 : (Jvm.Cond.laysFinal "ExemptDesk$ToldAsset" "ExemptDesk$Told" "quarter" "I") ∈ lw_all := lw_g (lw_at lw_m6 222 rfl) rfl
theorem q1545 : (Jvm.Cond.laysFinal "ExemptDesk$ToldAsset" "ExemptDesk$Told" "kind" "I") ∈ lw_all := lw_g (lw_at lw_m6 223 rfl) rfl
theorem q1546 : (Jvm.Cond.laysFinal "ExemptDesk$ToldAsset" "ExemptDesk$Told" "amount" "I") ∈ lw_all := lw_g (lw_at lw_m6 224 rfl) rfl
theorem q1547 : (Jvm.Cond.superclass "ExemptDesk$ToldAsset" "ExemptDesk$Told") ∈ lw_all := lw_g (lw_at lw_m6 225 rfl) rfl
theorem q2965 : (Jvm.Cond.castable "ExemptDesk$ToldAsset" "ExemptDesk$Told") ∈ lw_tbl := lw_at lw_m12 203 rfl
theorem q2990 : (Jvm.Cond.castable "ExemptDesk$ToldAsset" "java/lang/Object") ∈ lw_tbl := lw_at lw_m12 228 rfl

abbrev cX14_init : ByteArray := prog_5_method_1_code
def yX14_init : MethodName := ⟨RX14, "<init>", "(IIIII)V"⟩
def dkwX14_init_1 : List UInt8 := [181, 0, 19, 42, 21, 5, 181, 0, 22, 177]
abbrev dktX14_init_1 : List UInt8 := dkwX14_init_1 ++ []
def dkwX14_init_0 : List UInt8 := [42, 183, 0, 1, 42, 27, 181, 0, 7, 42, 28, 181, 0, 13, 42, 29, 181, 0, 16, 42, 21, 4]
abbrev dktX14_init_0 : List UInt8 := dkwX14_init_0 ++ dktX14_init_1
theorem dksX14_init_0 : cX14_init.data.toList.drop 0 = dktX14_init_0 := by decide +kernel
theorem dksX14_init_1 : cX14_init.data.toList.drop 22 = dktX14_init_1 := dk_seg dksX14_init_0 22 rfl rfl
theorem dX14_init_0 : decode cX14_init 0 = .ok (.aload_n 0, 1) := dk_42 (dk_at dksX14_init_0 0 rfl rfl)
theorem dX14_init_1 : decode cX14_init 1 = .ok (.invokespecial 1, 3) := dk_183 0 1 (dk_at dksX14_init_0 1 rfl rfl)
theorem dX14_init_4 : decode cX14_init 4 = .ok (.aload_n 0, 1) := dk_42 (dk_at dksX14_init_0 4 rfl rfl)
theorem dX14_init_5 : decode cX14_init 5 = .ok (.iload_n 1, 1) := dk_27 (dk_at dksX14_init_0 5 rfl rfl)
theorem dX14_init_6 : decode cX14_init 6 = .ok (.putfield 7, 3) := dk_181 0 7 (dk_at dksX14_init_0 6 rfl rfl)
theorem dX14_init_9 : decode cX14_init 9 = .ok (.aload_n 0, 1) := dk_42 (dk_at dksX14_init_0 9 rfl rfl)
theorem dX14_init_10 : decode cX14_init 10 = .ok (.iload_n 2, 1) := dk_28 (dk_at dksX14_init_0 10 rfl rfl)
theorem dX14_init_11 : decode cX14_init 11 = .ok (.putfield 13, 3) := dk_181 0 13 (dk_at dksX14_init_0 11 rfl rfl)
theorem dX14_init_14 : decode cX14_init 14 = .ok (.aload_n 0, 1) := dk_42 (dk_at dksX14_init_0 14 rfl rfl)
theorem dX14_init_15 : decode cX14_init 15 = .ok (.iload_n 3, 1) := dk_29 (dk_at dksX14_init_0 15 rfl rfl)
theorem dX14_init_16 : decode cX14_init 16 = .ok (.putfield 16, 3) := dk_181 0 16 (dk_at dksX14_init_0 16 rfl rfl)
theorem dX14_init_19 : decode cX14_init 19 = .ok (.aload_n 0, 1) := dk_42 (dk_at dksX14_init_0 19 rfl rfl)
theorem dX14_init_20 : decode cX14_init 20 = .ok (.iload 4, 2) := dk_21 4 (dk_at dksX14_init_0 20 rfl rfl)
theorem dX14_init_22 : decode cX14_init 22 = .ok (.putfield 19, 3) := dk_181 0 19 (dk_at dksX14_init_1 0 rfl rfl)
theorem dX14_init_25 : decode cX14_init 25 = .ok (.aload_n 0, 1) := dk_42 (dk_at dksX14_init_1 3 rfl rfl)
theorem dX14_init_26 : decode cX14_init 26 = .ok (.iload 5, 2) := dk_21 5 (dk_at dksX14_init_1 4 rfl rfl)
theorem dX14_init_28 : decode cX14_init 28 = .ok (.putfield 22, 3) := dk_181 0 22 (dk_at dksX14_init_1 6 rfl rfl)
theorem dX14_init_31 : decode cX14_init 31 = .ok (.return_, 1) := dk_177 (dk_at dksX14_init_1 9 rfl rfl)
abbrev cX14_told : ByteArray := prog_5_method_2_code
def yX14_told : MethodName := ⟨RX14, "told", "(I)I"⟩
def dkwX14_told_2 : List UInt8 := [180, 0, 22, 172]
abbrev dktX14_told_2 : List UInt8 := dkwX14_told_2 ++ []
def dkwX14_told_1 : List UInt8 := [5, 160, 0, 10, 42, 180, 0, 16, 167, 0, 19, 27, 6, 160, 0, 10, 42, 180, 0, 19, 167, 0, 7, 42]
abbrev dktX14_told_1 : List UInt8 := dkwX14_told_1 ++ dktX14_told_2
def dkwX14_told_0 : List UInt8 := [27, 154, 0, 10, 42, 180, 0, 7, 167, 0, 43, 27, 4, 160, 0, 10, 42, 180, 0, 13, 167, 0, 31, 27]
abbrev dktX14_told_0 : List UInt8 := dkwX14_told_0 ++ dktX14_told_1
theorem dksX14_told_0 : cX14_told.data.toList.drop 0 = dktX14_told_0 := by decide +kernel
theorem dksX14_told_1 : cX14_told.data.toList.drop 24 = dktX14_told_1 := dk_seg dksX14_told_0 24 rfl rfl
theorem dksX14_told_2 : cX14_told.data.toList.drop 48 = dktX14_told_2 := dk_seg dksX14_told_1 24 rfl rfl
theorem dX14_told_0 : decode cX14_told 0 = .ok (.iload_n 1, 1) := dk_27 (dk_at dksX14_told_0 0 rfl rfl)
theorem dX14_told_1 : decode cX14_told 1 = .ok (.ifCond .ne 10, 3) := dk_154 0 10 (dk_at dksX14_told_0 1 rfl rfl)
theorem dX14_told_4 : decode cX14_told 4 = .ok (.aload_n 0, 1) := dk_42 (dk_at dksX14_told_0 4 rfl rfl)
theorem dX14_told_5 : decode cX14_told 5 = .ok (.getfield 7, 3) := dk_180 0 7 (dk_at dksX14_told_0 5 rfl rfl)
theorem dX14_told_8 : decode cX14_told 8 = .ok (.goto 43, 3) := dk_167 0 43 (dk_at dksX14_told_0 8 rfl rfl)
theorem dX14_told_11 : decode cX14_told 11 = .ok (.iload_n 1, 1) := dk_27 (dk_at dksX14_told_0 11 rfl rfl)
theorem dX14_told_12 : decode cX14_told 12 = .ok (.iconst 1, 1) := dk_4 (dk_at dksX14_told_0 12 rfl rfl)
theorem dX14_told_13 : decode cX14_told 13 = .ok (.if_icmp .ne 10, 3) := dk_160 0 10 (dk_at dksX14_told_0 13 rfl rfl)
theorem dX14_told_16 : decode cX14_told 16 = .ok (.aload_n 0, 1) := dk_42 (dk_at dksX14_told_0 16 rfl rfl)
theorem dX14_told_17 : decode cX14_told 17 = .ok (.getfield 13, 3) := dk_180 0 13 (dk_at dksX14_told_0 17 rfl rfl)
theorem dX14_told_20 : decode cX14_told 20 = .ok (.goto 31, 3) := dk_167 0 31 (dk_at dksX14_told_0 20 rfl rfl)
theorem dX14_told_23 : decode cX14_told 23 = .ok (.iload_n 1, 1) := dk_27 (dk_at dksX14_told_0 23 rfl rfl)
theorem dX14_told_24 : decode cX14_told 24 = .ok (.iconst 2, 1) := dk_5 (dk_at dksX14_told_1 0 rfl rfl)
theorem dX14_told_25 : decode cX14_told 25 = .ok (.if_icmp .ne 10, 3) := dk_160 0 10 (dk_at dksX14_told_1 1 rfl rfl)
theorem dX14_told_28 : decode cX14_told 28 = .ok (.aload_n 0, 1) := dk_42 (dk_at dksX14_told_1 4 rfl rfl)
theorem dX14_told_29 : decode cX14_told 29 = .ok (.getfield 16, 3) := dk_180 0 16 (dk_at dksX14_told_1 5 rfl rfl)
theorem dX14_told_32 : decode cX14_told 32 = .ok (.goto 19, 3) := dk_167 0 19 (dk_at dksX14_told_1 8 rfl rfl)
theorem dX14_told_35 : decode cX14_told 35 = .ok (.iload_n 1, 1) := dk_27 (dk_at dksX14_told_1 11 rfl rfl)
theorem dX14_told_36 : decode cX14_told 36 = .ok (.iconst 3, 1) := dk_6 (dk_at dksX14_told_1 12 rfl rfl)
theorem dX14_told_37 : decode cX14_told 37 = .ok (.if_icmp .ne 10, 3) := dk_160 0 10 (dk_at dksX14_told_1 13 rfl rfl)
theorem dX14_told_40 : decode cX14_told 40 = .ok (.aload_n 0, 1) := dk_42 (dk_at dksX14_told_1 16 rfl rfl)
theorem dX14_told_41 : decode cX14_told 41 = .ok (.getfield 19, 3) := dk_180 0 19 (dk_at dksX14_told_1 17 rfl rfl)
theorem dX14_told_44 : decode cX14_told 44 = .ok (.goto 7, 3) := dk_167 0 7 (dk_at dksX14_told_1 20 rfl rfl)
theorem dX14_told_47 : decode cX14_told 47 = .ok (.aload_n 0, 1) := dk_42 (dk_at dksX14_told_1 23 rfl rfl)
theorem dX14_told_48 : decode cX14_told 48 = .ok (.getfield 22, 3) := dk_180 0 22 (dk_at dksX14_told_2 0 rfl rfl)
theorem dX14_told_51 : decode cX14_told 51 = .ok (.ireturn, 1) := dk_172 (dk_at dksX14_told_2 3 rfl rfl)
theorem q172 : (Jvm.Cond.initialized "ExemptDesk$Entry") ∈ lw_all := lw_g (lw_at lw_m1 50 rfl) rfl
theorem q220 : (Jvm.Cond.selects "ExemptDesk$Entry" ({ cls := "java/lang/Object", name := "getClass", desc := "()Ljava/lang/Class;" } : Jvm.MethodName) ({ cls := "java/lang/Object", name := "getClass", desc := "()Ljava/lang/Class;" } : Jvm.MethodName)) ∈ lw_all := lw_g (lw_at lw_m1 98 rfl) rfl
theorem q1897 : (Jvm.Cond.instantiable "ExemptDesk$Entry" (5 : Nat)) ∈ lw_all := lw_g (lw_at lw_m8 95 rfl) rfl
theorem q1899 : (Jvm.Cond.instanceMethod ({ cls := "ExemptDesk$Entry", name := "<init>", desc := "(IIIII)V" } : Jvm.MethodName)) ∈ lw_all := lw_g (lw_at lw_m8 97 rfl) rfl
theorem q1900 : (Jvm.Cond.code ({ cls := "ExemptDesk$Entry", name := "<init>", desc := "(IIIII)V" } : Jvm.MethodName) prog_5_method_1_code (6 : Nat) (Option.none : Option Jvm.ClassFile.FieldType)) ∈ lw_all := lw_g (lw_at lw_m8 98 rfl) rfl
theorem q1901 : (Jvm.Cond.methodLink "ExemptDesk$Entry" (1 : Nat) ({ cls := "java/lang/Object", name := "<init>", desc := "()V" } : Jvm.MethodName)) ∈ lw_all := lw_g (lw_at lw_m8 99 rfl) rfl
theorem q1902 : (Jvm.Cond.fieldLink "ExemptDesk$Entry" (7 : Nat) "ExemptDesk$Entry" "quarter" "I") ∈ lw_all := lw_g (lw_at lw_m8 100 rfl) rfl
theorem q1903 : (Jvm.Cond.fieldLink "ExemptDesk$Entry" (13 : Nat) "ExemptDesk$Entry" "trader" "I") ∈ lw_all := lw_g (lw_at lw_m8 101 rfl) rfl
theorem q1904 : (Jvm.Cond.fieldLink "ExemptDesk$Entry" (16 : Nat) "ExemptDesk$Entry" "sort" "I") ∈ lw_all := lw_g (lw_at lw_m8 102 rfl) rfl
theorem q1905 : (Jvm.Cond.fieldLink "ExemptDesk$Entry" (19 : Nat) "ExemptDesk$Entry" "amount" "I") ∈ lw_all := lw_g (lw_at lw_m8 103 rfl) rfl
theorem q1906 : (Jvm.Cond.fieldLink "ExemptDesk$Entry" (22 : Nat) "ExemptDesk$Entry" "asset" "I") ∈ lw_all := lw_g (lw_at lw_m8 104 rfl) rfl
theorem q1907 : (Jvm.Cond.laysFinal "ExemptDesk$Entry" "ExemptDesk$Entry" "quarter" "I") ∈ lw_all := lw_g (lw_at lw_m8 105 rfl) rfl
theorem q1908 : (Jvm.Cond.soleField "ExemptDesk$Entry" "quarter") ∈ lw_all := lw_g (lw_at lw_m8 106 rfl) rfl
theorem q1909 : (Jvm.Cond.laysFinal "ExemptDesk$Entry" "ExemptDesk$Entry" "trader" "I") ∈ lw_all := lw_g (lw_at lw_m8 107 rfl) rfl
theorem q1910 : (Jvm.Cond.soleField "ExemptDesk$Entry" "trader") ∈ lw_all := lw_g (lw_at lw_m8 108 rfl) rfl
theorem q1911 : (Jvm.Cond.laysFinal "ExemptDesk$Entry" "ExemptDesk$Entry" "sort" "I") ∈ lw_all := lw_g (lw_at lw_m8 109 rfl) rfl
theorem q1912 : (Jvm.Cond.soleField "ExemptDesk$Entry" "sort") ∈ lw_all := lw_g (lw_at lw_m8 110 rfl) rfl
theorem q1913 : (Jvm.Cond.laysFinal "ExemptDesk$Entry" "ExemptDesk$Entry" "amount" "I") ∈ lw_all := lw_g (lw_at lw_m8 111 rfl) rfl
theorem q1914 : (Jvm.Cond.soleField "ExemptDesk$Entry" "amount") ∈ lw_all := lw_g (lw_at lw_m8 112 rfl) rfl
theorem q1915 : (Jvm.Cond.laysFinal "ExemptDesk$Entry" "ExemptDesk$Entry" "asset" "I") ∈ lw_all := lw_g (lw_at lw_m8 113 rfl) rfl
theorem q1916 : (Jvm.Cond.soleField "ExemptDesk$Entry" "asset") ∈ lw_all := lw_g (lw_at lw_m8 114 rfl) rfl
theorem q1917 : (Jvm.Cond.superclass "ExemptDesk$Entry" "java/lang/Object") ∈ lw_all := lw_g (lw_at lw_m8 115 rfl) rfl
theorem q2128 : (Jvm.Cond.instanceMethod ({ cls := "ExemptDesk$Entry", name := "told", desc := "(I)I" } : Jvm.MethodName)) ∈ lw_all := lw_g (lw_at lw_m9 86 rfl) rfl
theorem q2129 : (Jvm.Cond.selects "ExemptDesk$Entry" ({ cls := "ExemptDesk$Entry", name := "told", desc := "(I)I" } : Jvm.MethodName) ({ cls := "ExemptDesk$Entry", name := "told", desc := "(I)I" } : Jvm.MethodName)) ∈ lw_all := lw_g (lw_at lw_m9 87 rfl) rfl
theorem q2130 : (Jvm.Cond.code ({ cls := "ExemptDesk$Entry", name := "told", desc := "(I)I" } : Jvm.MethodName) prog_5_method_2_code (2 : Nat) (Option.some Jvm.ClassFile.FieldType.int)) ∈ lw_all := lw_g (lw_at lw_m9 88 rfl) rfl
theorem q2993 : (Jvm.Cond.castable "ExemptDesk$Entry" "java/lang/Object") ∈ lw_tbl := lw_at lw_m12 231 rfl

theorem q1642 : (Jvm.Cond.interfaceMethod "ExemptDesk$Cut" "ExemptDesk$Cut" "of" "(JJ)J") ∈ lw_tbl := lw_at lw_m7 80 rfl
theorem q1643 : (Jvm.Cond.declares ({ cls := "ExemptDesk$Cut", name := "of", desc := "(JJ)J" } : Jvm.MethodName)) ∈ lw_tbl := lw_at lw_m7 81 rfl

theorem q1854 : (Jvm.Cond.interfaceMethod "ExemptDesk$Part" "ExemptDesk$Part" "of" "(LExemptDesk$Sums;II)J") ∈ lw_tbl := lw_at lw_m8 52 rfl
theorem q1855 : (Jvm.Cond.declares ({ cls := "ExemptDesk$Part", name := "of", desc := "(LExemptDesk$Sums;II)J" } : Jvm.MethodName)) ∈ lw_tbl := lw_at lw_m8 53 rfl

theorem q715 : (Jvm.Cond.sameMethod "[B" "java/lang/Object" "clone" "()Ljava/lang/Object;") ∈ lw_all := lw_g (lw_at lw_m3 113 rfl) rfl
theorem q718 : (Jvm.Cond.selects "[B" ({ cls := "[B", name := "clone", desc := "()Ljava/lang/Object;" } : Jvm.MethodName) ({ cls := "java/lang/Object", name := "clone", desc := "()Ljava/lang/Object;" } : Jvm.MethodName)) ∈ lw_all := lw_g (lw_at lw_m3 116 rfl) rfl
theorem q719 : (Jvm.Cond.castable "[B" "java/lang/Cloneable") ∈ lw_tbl := lw_at lw_m3 117 rfl
theorem q3001 : (Jvm.Cond.castable "[B" "java/lang/Object") ∈ lw_tbl := lw_at lw_m12 239 rfl

theorem q3005 : (Jvm.Cond.castable "[I" "java/lang/Object") ∈ lw_tbl := lw_at lw_m13 3 rfl

theorem q1764 : (Jvm.Cond.sameMethod "[J" "java/lang/Object" "clone" "()Ljava/lang/Object;") ∈ lw_all := lw_g (lw_at lw_m7 202 rfl) rfl
theorem q1765 : (Jvm.Cond.selects "[J" ({ cls := "[J", name := "clone", desc := "()Ljava/lang/Object;" } : Jvm.MethodName) ({ cls := "java/lang/Object", name := "clone", desc := "()Ljava/lang/Object;" } : Jvm.MethodName)) ∈ lw_all := lw_g (lw_at lw_m7 203 rfl) rfl
theorem q1766 : (Jvm.Cond.castable "[J" "java/lang/Cloneable") ∈ lw_tbl := lw_at lw_m7 204 rfl
theorem q3006 : (Jvm.Cond.castable "[J" "java/lang/Object") ∈ lw_tbl := lw_at lw_m13 4 rfl

theorem q3003 : (Jvm.Cond.castable "[LExemptDesk$Sums;" "java/lang/Object") ∈ lw_tbl := lw_at lw_m13 1 rfl

theorem q2997 : (Jvm.Cond.sameMethod "[Ljava/lang/Object;" "java/lang/Object" "getClass" "()Ljava/lang/Class;") ∈ lw_all := lw_g (lw_at lw_m12 235 rfl) rfl
theorem q2998 : (Jvm.Cond.selects "[Ljava/lang/Object;" ({ cls := "java/lang/Object", name := "getClass", desc := "()Ljava/lang/Class;" } : Jvm.MethodName) ({ cls := "java/lang/Object", name := "getClass", desc := "()Ljava/lang/Class;" } : Jvm.MethodName)) ∈ lw_all := lw_g (lw_at lw_m12 236 rfl) rfl
theorem q3000 : (Jvm.Cond.castable "[Ljava/lang/Object;" "java/lang/Object") ∈ lw_tbl := lw_at lw_m12 238 rfl

theorem q3007 : (Jvm.Cond.castable "[Ljava/lang/String;" "java/lang/Object") ∈ lw_tbl := lw_at lw_m13 5 rfl

theorem q3004 : (Jvm.Cond.castable "[[I" "java/lang/Object") ∈ lw_tbl := lw_at lw_m13 2 rfl

theorem q3002 : (Jvm.Cond.castable "[[LExemptDesk$Sums;" "java/lang/Object") ∈ lw_tbl := lw_at lw_m13 0 rfl

theorem q157 : (Jvm.Cond.initialized "java/lang/Number") ∈ lw_all := lw_g (lw_at lw_m1 35 rfl) rfl

theorem q154 : (Jvm.Cond.initialized "java/lang/System") ∈ lw_all := lw_g (lw_at lw_m1 32 rfl) rfl
theorem q725 : (Jvm.Cond.static ({ cls := "java/lang/System", name := "arraycopy", desc := "(Ljava/lang/Object;ILjava/lang/Object;II)V" } : Jvm.MethodName)) ∈ lw_all := lw_g (lw_at lw_m3 123 rfl) rfl
theorem q726 : (Jvm.Cond.native ({ cls := "java/lang/System", name := "arraycopy", desc := "(Ljava/lang/Object;ILjava/lang/Object;II)V" } : Jvm.MethodName)) ∈ lw_all := lw_g (lw_at lw_m3 124 rfl) rfl

theorem q160 : (Jvm.Cond.initialized "java/util/AbstractList$ListItr") ∈ lw_all := lw_g (lw_at lw_m1 38 rfl) rfl
theorem q236 : (Jvm.Cond.selects "java/util/AbstractList$ListItr" ({ cls := "java/lang/Object", name := "getClass", desc := "()Ljava/lang/Class;" } : Jvm.MethodName) ({ cls := "java/lang/Object", name := "getClass", desc := "()Ljava/lang/Class;" } : Jvm.MethodName)) ∈ lw_all := lw_g (lw_at lw_m1 114 rfl) rfl
theorem q976 : (Jvm.Cond.castable "java/util/AbstractList$ListItr" "java/util/Iterator") ∈ lw_tbl := lw_at lw_m4 134 rfl
theorem q977 : (Jvm.Cond.selects "java/util/AbstractList$ListItr" ({ cls := "java/util/Iterator", name := "hasNext", desc := "()Z" } : Jvm.MethodName) ({ cls := "java/util/AbstractList$Itr", name := "hasNext", desc := "()Z" } : Jvm.MethodName)) ∈ lw_all := lw_g (lw_at lw_m4 135 rfl) rfl
theorem q978 : (Jvm.Cond.unhidden "java/util/AbstractList$ListItr" "hasNext" "()Z") ∈ lw_tbl := lw_at lw_m4 136 rfl
theorem q1002 : (Jvm.Cond.selects "java/util/AbstractList$ListItr" ({ cls := "java/util/Iterator", name := "next", desc := "()Ljava/lang/Object;" } : Jvm.MethodName) ({ cls := "java/util/AbstractList$Itr", name := "next", desc := "()Ljava/lang/Object;" } : Jvm.MethodName)) ∈ lw_all := lw_g (lw_at lw_m4 160 rfl) rfl
theorem q1003 : (Jvm.Cond.unhidden "java/util/AbstractList$ListItr" "next" "()Ljava/lang/Object;") ∈ lw_tbl := lw_at lw_m4 161 rfl
theorem q1010 : (Jvm.Cond.selects "java/util/AbstractList$ListItr" ({ cls := "java/util/AbstractList$Itr", name := "checkForComodification", desc := "()V" } : Jvm.MethodName) ({ cls := "java/util/AbstractList$Itr", name := "checkForComodification", desc := "()V" } : Jvm.MethodName)) ∈ lw_all := lw_g (lw_at lw_m4 168 rfl) rfl
theorem q1985 : (Jvm.Cond.selects "java/util/AbstractList$ListItr" ({ cls := "java/util/Iterator", name := "remove", desc := "()V" } : Jvm.MethodName) ({ cls := "java/util/AbstractList$Itr", name := "remove", desc := "()V" } : Jvm.MethodName)) ∈ lw_all := lw_g (lw_at lw_m8 183 rfl) rfl
theorem q1986 : (Jvm.Cond.unhidden "java/util/AbstractList$ListItr" "remove" "()V") ∈ lw_tbl := lw_at lw_m8 184 rfl
theorem q2981 : (Jvm.Cond.castable "java/util/AbstractList$ListItr" "java/lang/Object") ∈ lw_tbl := lw_at lw_m12 219 rfl
theorem q3008 : (Jvm.Cond.fieldLink "java/util/AbstractList$ListItr" (1 : Nat) "java/util/AbstractList$ListItr" "this$0" "Ljava/util/AbstractList;") ∈ lw_all := lw_g (lw_at lw_m13 6 rfl) rfl
theorem q3013 : (Jvm.Cond.fieldLink "java/util/AbstractList$ListItr" (13 : Nat) "java/util/AbstractList$ListItr" "cursor" "I") ∈ lw_all := lw_g (lw_at lw_m13 11 rfl) rfl
theorem q3014 : (Jvm.Cond.sameField "java/util/AbstractList$ListItr" "java/util/AbstractList$Itr" "cursor" "I") ∈ lw_all := lw_g (lw_at lw_m13 12 rfl) rfl

theorem q974 : (Jvm.Cond.interfaceMethod "java/util/Iterator" "java/util/Iterator" "hasNext" "()Z") ∈ lw_tbl := lw_at lw_m4 132 rfl
theorem q975 : (Jvm.Cond.declares ({ cls := "java/util/Iterator", name := "hasNext", desc := "()Z" } : Jvm.MethodName)) ∈ lw_tbl := lw_at lw_m4 133 rfl
theorem q1000 : (Jvm.Cond.interfaceMethod "java/util/Iterator" "java/util/Iterator" "next" "()Ljava/lang/Object;") ∈ lw_tbl := lw_at lw_m4 158 rfl
theorem q1001 : (Jvm.Cond.declares ({ cls := "java/util/Iterator", name := "next", desc := "()Ljava/lang/Object;" } : Jvm.MethodName)) ∈ lw_tbl := lw_at lw_m4 159 rfl
theorem q1983 : (Jvm.Cond.interfaceMethod "java/util/Iterator" "java/util/Iterator" "remove" "()V") ∈ lw_tbl := lw_at lw_m8 181 rfl
theorem q1984 : (Jvm.Cond.declares ({ cls := "java/util/Iterator", name := "remove", desc := "()V" } : Jvm.MethodName)) ∈ lw_tbl := lw_at lw_m8 182 rfl

theorem q208 : (Jvm.Cond.arrayOver (Jvm.ClassFile.FieldType.object "java/lang/Object")) ∈ lw_tbl := lw_at lw_m1 86 rfl
theorem q348 : (Jvm.Cond.arrayClass Jvm.ClassFile.FieldType.byte) ∈ lw_all := lw_g (lw_at lw_m1 226 rfl) rfl
theorem q449 : (Jvm.Cond.arrayOver (Jvm.ClassFile.FieldType.array (Jvm.ClassFile.FieldType.object "ExemptDesk$Sums"))) ∈ lw_tbl := lw_at lw_m2 87 rfl
theorem q450 : (Jvm.Cond.arrayOver (Jvm.ClassFile.FieldType.object "ExemptDesk$Sums")) ∈ lw_tbl := lw_at lw_m2 88 rfl
theorem q451 : (Jvm.Cond.arrayClass (Jvm.ClassFile.FieldType.object "ExemptDesk$Sums")) ∈ lw_all := lw_g (lw_at lw_m2 89 rfl) rfl
theorem q453 : (Jvm.Cond.arrayOver (Jvm.ClassFile.FieldType.array Jvm.ClassFile.FieldType.int)) ∈ lw_tbl := lw_at lw_m2 91 rfl
theorem q475 : (Jvm.Cond.arrayClass Jvm.ClassFile.FieldType.int) ∈ lw_all := lw_g (lw_at lw_m2 113 rfl) rfl
theorem q499 : (Jvm.Cond.arrayClass Jvm.ClassFile.FieldType.long) ∈ lw_all := lw_g (lw_at lw_m2 137 rfl) rfl
theorem q3028 : (Jvm.Cond.arrayOver (Jvm.ClassFile.FieldType.object "java/lang/String")) ∈ lw_tbl := lw_at lw_m13 26 rfl

