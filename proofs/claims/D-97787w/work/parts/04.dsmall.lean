set_option maxRecDepth 100000
def dkwJ0_max_0 : List UInt8 := [26, 27, 161, 0, 7, 26, 167, 0, 4, 27, 172]
abbrev dktJ0_max_0 : List UInt8 := dkwJ0_max_0 ++ []
theorem dksJ0_max_0 : cJ0_max.data.toList.drop 0 = dktJ0_max_0 := by decide +kernel
theorem dJ0_max_0 : decode cJ0_max 0 = .ok (.iload_n 0, 1) := dk_26 (dk_at dksJ0_max_0 0 rfl rfl)
theorem dJ0_max_1 : decode cJ0_max 1 = .ok (.iload_n 1, 1) := dk_27 (dk_at dksJ0_max_0 1 rfl rfl)
theorem dJ0_max_2 : decode cJ0_max 2 = .ok (.if_icmp .lt 7, 3) := dk_161 0 7 (dk_at dksJ0_max_0 2 rfl rfl)
theorem dJ0_max_5 : decode cJ0_max 5 = .ok (.iload_n 0, 1) := dk_26 (dk_at dksJ0_max_0 5 rfl rfl)
theorem dJ0_max_6 : decode cJ0_max 6 = .ok (.goto 4, 3) := dk_167 0 4 (dk_at dksJ0_max_0 6 rfl rfl)
theorem dJ0_max_9 : decode cJ0_max 9 = .ok (.iload_n 1, 1) := dk_27 (dk_at dksJ0_max_0 9 rfl rfl)
theorem dJ0_max_10 : decode cJ0_max 10 = .ok (.ireturn, 1) := dk_172 (dk_at dksJ0_max_0 10 rfl rfl)
def dkwJ0_min_0 : List UInt8 := [26, 27, 163, 0, 7, 26, 167, 0, 4, 27, 172]
abbrev dktJ0_min_0 : List UInt8 := dkwJ0_min_0 ++ []
theorem dksJ0_min_0 : cJ0_min.data.toList.drop 0 = dktJ0_min_0 := by decide +kernel
theorem dJ0_min_0 : decode cJ0_min 0 = .ok (.iload_n 0, 1) := dk_26 (dk_at dksJ0_min_0 0 rfl rfl)
theorem dJ0_min_1 : decode cJ0_min 1 = .ok (.iload_n 1, 1) := dk_27 (dk_at dksJ0_min_0 1 rfl rfl)
theorem dJ0_min_2 : decode cJ0_min 2 = .ok (.if_icmp .gt 7, 3) := dk_163 0 7 (dk_at dksJ0_min_0 2 rfl rfl)
theorem dJ0_min_5 : decode cJ0_min 5 = .ok (.iload_n 0, 1) := dk_26 (dk_at dksJ0_min_0 5 rfl rfl)
theorem dJ0_min_6 : decode cJ0_min 6 = .ok (.goto 4, 3) := dk_167 0 4 (dk_at dksJ0_min_0 6 rfl rfl)
theorem dJ0_min_9 : decode cJ0_min 9 = .ok (.iload_n 1, 1) := dk_27 (dk_at dksJ0_min_0 9 rfl rfl)
theorem dJ0_min_10 : decode cJ0_min 10 = .ok (.ireturn, 1) := dk_172 (dk_at dksJ0_min_0 10 rfl rfl)
def dkwJ1_init_1 : List UInt8 := [182, 0, 27, 87, 42, 43, 181, 0, 31, 177]
abbrev dktJ1_init_1 : List UInt8 := dkwJ1_init_1 ++ []
def dkwJ1_init_0 : List UInt8 := [42, 183, 0, 1, 42, 42, 181, 0, 7, 42, 178, 0, 13, 181, 0, 17, 42, 178, 0, 20, 181, 0, 24, 42]
abbrev dktJ1_init_0 : List UInt8 := dkwJ1_init_0 ++ dktJ1_init_1
theorem dksJ1_init_0 : cJ1_init.data.toList.drop 0 = dktJ1_init_0 := by decide +kernel
theorem dksJ1_init_1 : cJ1_init.data.toList.drop 24 = dktJ1_init_1 := dk_seg dksJ1_init_0 24 rfl rfl
theorem dJ1_init_0 : decode cJ1_init 0 = .ok (.aload_n 0, 1) := dk_42 (dk_at dksJ1_init_0 0 rfl rfl)
theorem dJ1_init_1 : decode cJ1_init 1 = .ok (.invokespecial 1, 3) := dk_183 0 1 (dk_at dksJ1_init_0 1 rfl rfl)
theorem dJ1_init_4 : decode cJ1_init 4 = .ok (.aload_n 0, 1) := dk_42 (dk_at dksJ1_init_0 4 rfl rfl)
theorem dJ1_init_5 : decode cJ1_init 5 = .ok (.aload_n 0, 1) := dk_42 (dk_at dksJ1_init_0 5 rfl rfl)
theorem dJ1_init_6 : decode cJ1_init 6 = .ok (.putfield 7, 3) := dk_181 0 7 (dk_at dksJ1_init_0 6 rfl rfl)
theorem dJ1_init_9 : decode cJ1_init 9 = .ok (.aload_n 0, 1) := dk_42 (dk_at dksJ1_init_0 9 rfl rfl)
theorem dJ1_init_10 : decode cJ1_init 10 = .ok (.getstatic 13, 3) := dk_178 0 13 (dk_at dksJ1_init_0 10 rfl rfl)
theorem dJ1_init_13 : decode cJ1_init 13 = .ok (.putfield 17, 3) := dk_181 0 17 (dk_at dksJ1_init_0 13 rfl rfl)
theorem dJ1_init_16 : decode cJ1_init 16 = .ok (.aload_n 0, 1) := dk_42 (dk_at dksJ1_init_0 16 rfl rfl)
theorem dJ1_init_17 : decode cJ1_init 17 = .ok (.getstatic 20, 3) := dk_178 0 20 (dk_at dksJ1_init_0 17 rfl rfl)
theorem dJ1_init_20 : decode cJ1_init 20 = .ok (.putfield 24, 3) := dk_181 0 24 (dk_at dksJ1_init_0 20 rfl rfl)
theorem dJ1_init_23 : decode cJ1_init 23 = .ok (.aload_n 0, 1) := dk_42 (dk_at dksJ1_init_0 23 rfl rfl)
theorem dJ1_init_24 : decode cJ1_init 24 = .ok (.invokevirtual 27, 3) := dk_182 0 27 (dk_at dksJ1_init_1 0 rfl rfl)
theorem dJ1_init_27 : decode cJ1_init 27 = .ok (.pop, 1) := dk_87 (dk_at dksJ1_init_1 3 rfl rfl)
theorem dJ1_init_28 : decode cJ1_init 28 = .ok (.aload_n 0, 1) := dk_42 (dk_at dksJ1_init_1 4 rfl rfl)
theorem dJ1_init_29 : decode cJ1_init 29 = .ok (.aload_n 1, 1) := dk_43 (dk_at dksJ1_init_1 5 rfl rfl)
theorem dJ1_init_30 : decode cJ1_init 30 = .ok (.putfield 31, 3) := dk_181 0 31 (dk_at dksJ1_init_1 6 rfl rfl)
theorem dJ1_init_33 : decode cJ1_init 33 = .ok (.return_, 1) := dk_177 (dk_at dksJ1_init_1 9 rfl rfl)
def dkwJ1_init_2_1 : List UInt8 := [182, 0, 27, 87, 177]
abbrev dktJ1_init_2_1 : List UInt8 := dkwJ1_init_2_1 ++ []
def dkwJ1_init_2_0 : List UInt8 := [42, 183, 0, 1, 42, 42, 181, 0, 7, 42, 178, 0, 13, 181, 0, 17, 42, 178, 0, 20, 181, 0, 24, 42]
abbrev dktJ1_init_2_0 : List UInt8 := dkwJ1_init_2_0 ++ dktJ1_init_2_1
theorem dksJ1_init_2_0 : cJ1_init_2.data.toList.drop 0 = dktJ1_init_2_0 := by decide +kernel
theorem dksJ1_init_2_1 : cJ1_init_2.data.toList.drop 24 = dktJ1_init_2_1 := dk_seg dksJ1_init_2_0 24 rfl rfl
theorem dJ1_init_2_0 : decode cJ1_init_2 0 = .ok (.aload_n 0, 1) := dk_42 (dk_at dksJ1_init_2_0 0 rfl rfl)
theorem dJ1_init_2_1 : decode cJ1_init_2 1 = .ok (.invokespecial 1, 3) := dk_183 0 1 (dk_at dksJ1_init_2_0 1 rfl rfl)
theorem dJ1_init_2_4 : decode cJ1_init_2 4 = .ok (.aload_n 0, 1) := dk_42 (dk_at dksJ1_init_2_0 4 rfl rfl)
theorem dJ1_init_2_5 : decode cJ1_init_2 5 = .ok (.aload_n 0, 1) := dk_42 (dk_at dksJ1_init_2_0 5 rfl rfl)
theorem dJ1_init_2_6 : decode cJ1_init_2 6 = .ok (.putfield 7, 3) := dk_181 0 7 (dk_at dksJ1_init_2_0 6 rfl rfl)
theorem dJ1_init_2_9 : decode cJ1_init_2 9 = .ok (.aload_n 0, 1) := dk_42 (dk_at dksJ1_init_2_0 9 rfl rfl)
theorem dJ1_init_2_10 : decode cJ1_init_2 10 = .ok (.getstatic 13, 3) := dk_178 0 13 (dk_at dksJ1_init_2_0 10 rfl rfl)
theorem dJ1_init_2_13 : decode cJ1_init_2 13 = .ok (.putfield 17, 3) := dk_181 0 17 (dk_at dksJ1_init_2_0 13 rfl rfl)
theorem dJ1_init_2_16 : decode cJ1_init_2 16 = .ok (.aload_n 0, 1) := dk_42 (dk_at dksJ1_init_2_0 16 rfl rfl)
theorem dJ1_init_2_17 : decode cJ1_init_2 17 = .ok (.getstatic 20, 3) := dk_178 0 20 (dk_at dksJ1_init_2_0 17 rfl rfl)
theorem dJ1_init_2_20 : decode cJ1_init_2 20 = .ok (.putfield 24, 3) := dk_181 0 24 (dk_at dksJ1_init_2_0 20 rfl rfl)
theorem dJ1_init_2_23 : decode cJ1_init_2 23 = .ok (.aload_n 0, 1) := dk_42 (dk_at dksJ1_init_2_0 23 rfl rfl)
theorem dJ1_init_2_24 : decode cJ1_init_2 24 = .ok (.invokevirtual 27, 3) := dk_182 0 27 (dk_at dksJ1_init_2_1 0 rfl rfl)
theorem dJ1_init_2_27 : decode cJ1_init_2 27 = .ok (.pop, 1) := dk_87 (dk_at dksJ1_init_2_1 3 rfl rfl)
theorem dJ1_init_2_28 : decode cJ1_init_2 28 = .ok (.return_, 1) := dk_177 (dk_at dksJ1_init_2_1 4 rfl rfl)
def dkwJ2_init_0 : List UInt8 := [42, 43, 183, 0, 7, 177]
abbrev dktJ2_init_0 : List UInt8 := dkwJ2_init_0 ++ []
theorem dksJ2_init_0 : cJ2_init.data.toList.drop 0 = dktJ2_init_0 := by decide +kernel
theorem dJ2_init_0 : decode cJ2_init 0 = .ok (.aload_n 0, 1) := dk_42 (dk_at dksJ2_init_0 0 rfl rfl)
theorem dJ2_init_1 : decode cJ2_init 1 = .ok (.aload_n 1, 1) := dk_43 (dk_at dksJ2_init_0 1 rfl rfl)
theorem dJ2_init_2 : decode cJ2_init 2 = .ok (.invokespecial 7, 3) := dk_183 0 7 (dk_at dksJ2_init_0 2 rfl rfl)
theorem dJ2_init_5 : decode cJ2_init 5 = .ok (.return_, 1) := dk_177 (dk_at dksJ2_init_0 5 rfl rfl)
theorem dJ2_init_2_0 : decode cJ2_init_2 0 = .ok (.aload_n 0, 1) := by decide +kernel
theorem dJ2_init_2_1 : decode cJ2_init_2 1 = .ok (.invokespecial 1, 3) := by decide +kernel
theorem dJ2_init_2_4 : decode cJ2_init_2 4 = .ok (.return_, 1) := by decide +kernel
def dkwJ3_init_0 : List UInt8 := [42, 43, 183, 0, 7, 177]
abbrev dktJ3_init_0 : List UInt8 := dkwJ3_init_0 ++ []
theorem dksJ3_init_0 : cJ3_init.data.toList.drop 0 = dktJ3_init_0 := by decide +kernel
theorem dJ3_init_0 : decode cJ3_init 0 = .ok (.aload_n 0, 1) := dk_42 (dk_at dksJ3_init_0 0 rfl rfl)
theorem dJ3_init_1 : decode cJ3_init 1 = .ok (.aload_n 1, 1) := dk_43 (dk_at dksJ3_init_0 1 rfl rfl)
theorem dJ3_init_2 : decode cJ3_init 2 = .ok (.invokespecial 7, 3) := dk_183 0 7 (dk_at dksJ3_init_0 2 rfl rfl)
theorem dJ3_init_5 : decode cJ3_init 5 = .ok (.return_, 1) := dk_177 (dk_at dksJ3_init_0 5 rfl rfl)
theorem dJ3_init_2_0 : decode cJ3_init_2 0 = .ok (.aload_n 0, 1) := by decide +kernel
theorem dJ3_init_2_1 : decode cJ3_init_2 1 = .ok (.invokespecial 1, 3) := by decide +kernel
theorem dJ3_init_2_4 : decode cJ3_init_2 4 = .ok (.return_, 1) := by decide +kernel
def dkwJ4_init_0 : List UInt8 := [42, 43, 183, 0, 7, 177]
abbrev dktJ4_init_0 : List UInt8 := dkwJ4_init_0 ++ []
theorem dksJ4_init_0 : cJ4_init.data.toList.drop 0 = dktJ4_init_0 := by decide +kernel
theorem dJ4_init_0 : decode cJ4_init 0 = .ok (.aload_n 0, 1) := dk_42 (dk_at dksJ4_init_0 0 rfl rfl)
theorem dJ4_init_1 : decode cJ4_init 1 = .ok (.aload_n 1, 1) := dk_43 (dk_at dksJ4_init_0 1 rfl rfl)
theorem dJ4_init_2 : decode cJ4_init 2 = .ok (.invokespecial 7, 3) := dk_183 0 7 (dk_at dksJ4_init_0 2 rfl rfl)
theorem dJ4_init_5 : decode cJ4_init 5 = .ok (.return_, 1) := dk_177 (dk_at dksJ4_init_0 5 rfl rfl)

theorem dJ6_init_0 : decode cJ6_init 0 = .ok (.aload_n 0, 1) := by decide +kernel
theorem dJ6_init_1 : decode cJ6_init 1 = .ok (.invokespecial 1, 3) := by decide +kernel
theorem dJ6_init_4 : decode cJ6_init 4 = .ok (.return_, 1) := by decide +kernel
def dkwJ7_init_0 : List UInt8 := [42, 43, 183, 0, 7, 177]
abbrev dktJ7_init_0 : List UInt8 := dkwJ7_init_0 ++ []
theorem dksJ7_init_0 : cJ7_init.data.toList.drop 0 = dktJ7_init_0 := by decide +kernel
theorem dJ7_init_0 : decode cJ7_init 0 = .ok (.aload_n 0, 1) := dk_42 (dk_at dksJ7_init_0 0 rfl rfl)
theorem dJ7_init_1 : decode cJ7_init 1 = .ok (.aload_n 1, 1) := dk_43 (dk_at dksJ7_init_0 1 rfl rfl)
theorem dJ7_init_2 : decode cJ7_init 2 = .ok (.invokespecial 7, 3) := dk_183 0 7 (dk_at dksJ7_init_0 2 rfl rfl)
theorem dJ7_init_5 : decode cJ7_init 5 = .ok (.return_, 1) := dk_177 (dk_at dksJ7_init_0 5 rfl rfl)
def dkwJ8_init_0 : List UInt8 := [42, 43, 183, 0, 7, 177]
abbrev dktJ8_init_0 : List UInt8 := dkwJ8_init_0 ++ []
theorem dksJ8_init_0 : cJ8_init.data.toList.drop 0 = dktJ8_init_0 := by decide +kernel
theorem dJ8_init_0 : decode cJ8_init 0 = .ok (.aload_n 0, 1) := dk_42 (dk_at dksJ8_init_0 0 rfl rfl)
theorem dJ8_init_1 : decode cJ8_init 1 = .ok (.aload_n 1, 1) := dk_43 (dk_at dksJ8_init_0 1 rfl rfl)
theorem dJ8_init_2 : decode cJ8_init 2 = .ok (.invokespecial 7, 3) := dk_183 0 7 (dk_at dksJ8_init_0 2 rfl rfl)
theorem dJ8_init_5 : decode cJ8_init 5 = .ok (.return_, 1) := dk_177 (dk_at dksJ8_init_0 5 rfl rfl)
def dkwJ9_init_0 : List UInt8 := [42, 43, 183, 0, 7, 177]
abbrev dktJ9_init_0 : List UInt8 := dkwJ9_init_0 ++ []
theorem dksJ9_init_0 : cJ9_init.data.toList.drop 0 = dktJ9_init_0 := by decide +kernel
theorem dJ9_init_0 : decode cJ9_init 0 = .ok (.aload_n 0, 1) := dk_42 (dk_at dksJ9_init_0 0 rfl rfl)
theorem dJ9_init_1 : decode cJ9_init 1 = .ok (.aload_n 1, 1) := dk_43 (dk_at dksJ9_init_0 1 rfl rfl)
theorem dJ9_init_2 : decode cJ9_init 2 = .ok (.invokespecial 7, 3) := dk_183 0 7 (dk_at dksJ9_init_0 2 rfl rfl)
theorem dJ9_init_5 : decode cJ9_init 5 = .ok (.return_, 1) := dk_177 (dk_at dksJ9_init_0 5 rfl rfl)
theorem dJ10_init_0 : decode cJ10_init 0 = .ok (.return_, 1) := by decide +kernel



def dkwX1_adds_1 : List UInt8 := [4, 96, 181, 0, 21, 177]
abbrev dktX1_adds_1 : List UInt8 := dkwX1_adds_1 ++ []
def dkwX1_adds_0 : List UInt8 := [42, 180, 0, 21, 16, 40, 162, 0, 23, 42, 180, 0, 9, 42, 180, 0, 21, 27, 79, 42, 89, 180, 0, 21]
abbrev dktX1_adds_0 : List UInt8 := dkwX1_adds_0 ++ dktX1_adds_1
theorem dksX1_adds_0 : cX1_adds.data.toList.drop 0 = dktX1_adds_0 := by decide +kernel
theorem dksX1_adds_1 : cX1_adds.data.toList.drop 24 = dktX1_adds_1 := dk_seg dksX1_adds_0 24 rfl rfl
theorem dX1_adds_0 : decode cX1_adds 0 = .ok (.aload_n 0, 1) := dk_42 (dk_at dksX1_adds_0 0 rfl rfl)
theorem dX1_adds_1 : decode cX1_adds 1 = .ok (.getfield 21, 3) := dk_180 0 21 (dk_at dksX1_adds_0 1 rfl rfl)
theorem dX1_adds_4 : decode cX1_adds 4 = .ok (.bipush 40, 2) := dk_16 40 (dk_at dksX1_adds_0 4 rfl rfl)
theorem dX1_adds_6 : decode cX1_adds 6 = .ok (.if_icmp .ge 23, 3) := dk_162 0 23 (dk_at dksX1_adds_0 6 rfl rfl)
theorem dX1_adds_9 : decode cX1_adds 9 = .ok (.aload_n 0, 1) := dk_42 (dk_at dksX1_adds_0 9 rfl rfl)
theorem dX1_adds_10 : decode cX1_adds 10 = .ok (.getfield 9, 3) := dk_180 0 9 (dk_at dksX1_adds_0 10 rfl rfl)
theorem dX1_adds_13 : decode cX1_adds 13 = .ok (.aload_n 0, 1) := dk_42 (dk_at dksX1_adds_0 13 rfl rfl)
theorem dX1_adds_14 : decode cX1_adds 14 = .ok (.getfield 21, 3) := dk_180 0 21 (dk_at dksX1_adds_0 14 rfl rfl)
theorem dX1_adds_17 : decode cX1_adds 17 = .ok (.iload_n 1, 1) := dk_27 (dk_at dksX1_adds_0 17 rfl rfl)
theorem dX1_adds_18 : decode cX1_adds 18 = .ok (.iastore, 1) := dk_79 (dk_at dksX1_adds_0 18 rfl rfl)
theorem dX1_adds_19 : decode cX1_adds 19 = .ok (.aload_n 0, 1) := dk_42 (dk_at dksX1_adds_0 19 rfl rfl)
theorem dX1_adds_20 : decode cX1_adds 20 = .ok (.dup, 1) := dk_89 (dk_at dksX1_adds_0 20 rfl rfl)
theorem dX1_adds_21 : decode cX1_adds 21 = .ok (.getfield 21, 3) := dk_180 0 21 (dk_at dksX1_adds_0 21 rfl rfl)
theorem dX1_adds_24 : decode cX1_adds 24 = .ok (.iconst 1, 1) := dk_4 (dk_at dksX1_adds_1 0 rfl rfl)
theorem dX1_adds_25 : decode cX1_adds 25 = .ok (.iadd, 1) := dk_96 (dk_at dksX1_adds_1 1 rfl rfl)
theorem dX1_adds_26 : decode cX1_adds 26 = .ok (.putfield 21, 3) := dk_181 0 21 (dk_at dksX1_adds_1 2 rfl rfl)
theorem dX1_adds_29 : decode cX1_adds 29 = .ok (.return_, 1) := dk_177 (dk_at dksX1_adds_1 5 rfl rfl)
def dkwX1_is_0 : List UInt8 := [43, 180, 0, 9, 3, 42, 180, 0, 9, 3, 16, 40, 184, 0, 15, 42, 43, 180, 0, 21, 181, 0, 21, 177]
abbrev dktX1_is_0 : List UInt8 := dkwX1_is_0 ++ []
theorem dksX1_is_0 : cX1_is.data.toList.drop 0 = dktX1_is_0 := by decide +kernel
theorem dX1_is_0 : decode cX1_is 0 = .ok (.aload_n 1, 1) := dk_43 (dk_at dksX1_is_0 0 rfl rfl)
theorem dX1_is_1 : decode cX1_is 1 = .ok (.getfield 9, 3) := dk_180 0 9 (dk_at dksX1_is_0 1 rfl rfl)
theorem dX1_is_4 : decode cX1_is 4 = .ok (.iconst 0, 1) := dk_3 (dk_at dksX1_is_0 4 rfl rfl)
theorem dX1_is_5 : decode cX1_is 5 = .ok (.aload_n 0, 1) := dk_42 (dk_at dksX1_is_0 5 rfl rfl)
theorem dX1_is_6 : decode cX1_is 6 = .ok (.getfield 9, 3) := dk_180 0 9 (dk_at dksX1_is_0 6 rfl rfl)
theorem dX1_is_9 : decode cX1_is 9 = .ok (.iconst 0, 1) := dk_3 (dk_at dksX1_is_0 9 rfl rfl)
theorem dX1_is_10 : decode cX1_is 10 = .ok (.bipush 40, 2) := dk_16 40 (dk_at dksX1_is_0 10 rfl rfl)
theorem dX1_is_12 : decode cX1_is 12 = .ok (.invokestatic 15, 3) := dk_184 0 15 (dk_at dksX1_is_0 12 rfl rfl)
theorem dX1_is_15 : decode cX1_is 15 = .ok (.aload_n 0, 1) := dk_42 (dk_at dksX1_is_0 15 rfl rfl)
theorem dX1_is_16 : decode cX1_is 16 = .ok (.aload_n 1, 1) := dk_43 (dk_at dksX1_is_0 16 rfl rfl)
theorem dX1_is_17 : decode cX1_is 17 = .ok (.getfield 21, 3) := dk_180 0 21 (dk_at dksX1_is_0 17 rfl rfl)
theorem dX1_is_20 : decode cX1_is 20 = .ok (.putfield 21, 3) := dk_181 0 21 (dk_at dksX1_is_0 20 rfl rfl)
theorem dX1_is_23 : decode cX1_is 23 = .ok (.return_, 1) := dk_177 (dk_at dksX1_is_0 23 rfl rfl)
def dkwX1_bits_1 : List UInt8 := [132, 2, 1, 167, 255, 234, 27, 172]
abbrev dktX1_bits_1 : List UInt8 := dkwX1_bits_1 ++ []
def dkwX1_bits_0 : List UInt8 := [3, 60, 3, 61, 28, 42, 180, 0, 21, 162, 0, 20, 27, 4, 42, 180, 0, 9, 28, 46, 120, 128, 60]
abbrev dktX1_bits_0 : List UInt8 := dkwX1_bits_0 ++ dktX1_bits_1
theorem dksX1_bits_0 : cX1_bits.data.toList.drop 0 = dktX1_bits_0 := by decide +kernel
theorem dksX1_bits_1 : cX1_bits.data.toList.drop 23 = dktX1_bits_1 := dk_seg dksX1_bits_0 23 rfl rfl
theorem dX1_bits_0 : decode cX1_bits 0 = .ok (.iconst 0, 1) := dk_3 (dk_at dksX1_bits_0 0 rfl rfl)
theorem dX1_bits_1 : decode cX1_bits 1 = .ok (.istore_n 1, 1) := dk_60 (dk_at dksX1_bits_0 1 rfl rfl)
theorem dX1_bits_2 : decode cX1_bits 2 = .ok (.iconst 0, 1) := dk_3 (dk_at dksX1_bits_0 2 rfl rfl)
theorem dX1_bits_3 : decode cX1_bits 3 = .ok (.istore_n 2, 1) := dk_61 (dk_at dksX1_bits_0 3 rfl rfl)
theorem dX1_bits_4 : decode cX1_bits 4 = .ok (.iload_n 2, 1) := dk_28 (dk_at dksX1_bits_0 4 rfl rfl)
theorem dX1_bits_5 : decode cX1_bits 5 = .ok (.aload_n 0, 1) := dk_42 (dk_at dksX1_bits_0 5 rfl rfl)
theorem dX1_bits_6 : decode cX1_bits 6 = .ok (.getfield 21, 3) := dk_180 0 21 (dk_at dksX1_bits_0 6 rfl rfl)
theorem dX1_bits_9 : decode cX1_bits 9 = .ok (.if_icmp .ge 20, 3) := dk_162 0 20 (dk_at dksX1_bits_0 9 rfl rfl)
theorem dX1_bits_12 : decode cX1_bits 12 = .ok (.iload_n 1, 1) := dk_27 (dk_at dksX1_bits_0 12 rfl rfl)
theorem dX1_bits_13 : decode cX1_bits 13 = .ok (.iconst 1, 1) := dk_4 (dk_at dksX1_bits_0 13 rfl rfl)
theorem dX1_bits_14 : decode cX1_bits 14 = .ok (.aload_n 0, 1) := dk_42 (dk_at dksX1_bits_0 14 rfl rfl)
theorem dX1_bits_15 : decode cX1_bits 15 = .ok (.getfield 9, 3) := dk_180 0 9 (dk_at dksX1_bits_0 15 rfl rfl)
theorem dX1_bits_18 : decode cX1_bits 18 = .ok (.iload_n 2, 1) := dk_28 (dk_at dksX1_bits_0 18 rfl rfl)
theorem dX1_bits_19 : decode cX1_bits 19 = .ok (.iaload, 1) := dk_46 (dk_at dksX1_bits_0 19 rfl rfl)
theorem dX1_bits_20 : decode cX1_bits 20 = .ok (.ishl, 1) := dk_120 (dk_at dksX1_bits_0 20 rfl rfl)
theorem dX1_bits_21 : decode cX1_bits 21 = .ok (.ior, 1) := dk_128 (dk_at dksX1_bits_0 21 rfl rfl)
theorem dX1_bits_22 : decode cX1_bits 22 = .ok (.istore_n 1, 1) := dk_60 (dk_at dksX1_bits_0 22 rfl rfl)
theorem dX1_bits_23 : decode cX1_bits 23 = .ok (.iinc 2 1, 3) := dk_132 2 1 (dk_at dksX1_bits_1 0 rfl rfl)
theorem dX1_bits_26 : decode cX1_bits 26 = .ok (.goto (-22), 3) := dk_167 255 234 (dk_at dksX1_bits_1 3 rfl rfl)
theorem dX1_bits_29 : decode cX1_bits 29 = .ok (.iload_n 1, 1) := dk_27 (dk_at dksX1_bits_1 6 rfl rfl)
theorem dX1_bits_30 : decode cX1_bits 30 = .ok (.ireturn, 1) := dk_172 (dk_at dksX1_bits_1 7 rfl rfl)
def dkwX1_isLike_2 : List UInt8 := [167, 0, 4, 3, 61, 132, 3, 1, 167, 255, 220, 28, 172]
abbrev dktX1_isLike_2 : List UInt8 := dkwX1_isLike_2 ++ []
def dkwX1_isLike_1 : List UInt8 := [162, 0, 34, 28, 153, 0, 30, 42, 180, 0, 9, 29, 46, 43, 180, 0, 9, 29, 46, 160, 0, 7, 4]
abbrev dktX1_isLike_1 : List UInt8 := dkwX1_isLike_1 ++ dktX1_isLike_2
def dkwX1_isLike_0 : List UInt8 := [42, 180, 0, 21, 43, 180, 0, 21, 160, 0, 7, 4, 167, 0, 4, 3, 61, 3, 62, 29, 42, 180, 0, 21]
abbrev dktX1_isLike_0 : List UInt8 := dkwX1_isLike_0 ++ dktX1_isLike_1
theorem dksX1_isLike_0 : cX1_isLike.data.toList.drop 0 = dktX1_isLike_0 := by decide +kernel
theorem dksX1_isLike_1 : cX1_isLike.data.toList.drop 24 = dktX1_isLike_1 := dk_seg dksX1_isLike_0 24 rfl rfl
theorem dksX1_isLike_2 : cX1_isLike.data.toList.drop 47 = dktX1_isLike_2 := dk_seg dksX1_isLike_1 23 rfl rfl
theorem dX1_isLike_0 : decode cX1_isLike 0 = .ok (.aload_n 0, 1) := dk_42 (dk_at dksX1_isLike_0 0 rfl rfl)
theorem dX1_isLike_1 : decode cX1_isLike 1 = .ok (.getfield 21, 3) := dk_180 0 21 (dk_at dksX1_isLike_0 1 rfl rfl)
theorem dX1_isLike_4 : decode cX1_isLike 4 = .ok (.aload_n 1, 1) := dk_43 (dk_at dksX1_isLike_0 4 rfl rfl)
theorem dX1_isLike_5 : decode cX1_isLike 5 = .ok (.getfield 21, 3) := dk_180 0 21 (dk_at dksX1_isLike_0 5 rfl rfl)
theorem dX1_isLike_8 : decode cX1_isLike 8 = .ok (.if_icmp .ne 7, 3) := dk_160 0 7 (dk_at dksX1_isLike_0 8 rfl rfl)
theorem dX1_isLike_11 : decode cX1_isLike 11 = .ok (.iconst 1, 1) := dk_4 (dk_at dksX1_isLike_0 11 rfl rfl)
theorem dX1_isLike_12 : decode cX1_isLike 12 = .ok (.goto 4, 3) := dk_167 0 4 (dk_at dksX1_isLike_0 12 rfl rfl)
theorem dX1_isLike_15 : decode cX1_isLike 15 = .ok (.iconst 0, 1) := dk_3 (dk_at dksX1_isLike_0 15 rfl rfl)
theorem dX1_isLike_16 : decode cX1_isLike 16 = .ok (.istore_n 2, 1) := dk_61 (dk_at dksX1_isLike_0 16 rfl rfl)
theorem dX1_isLike_17 : decode cX1_isLike 17 = .ok (.iconst 0, 1) := dk_3 (dk_at dksX1_isLike_0 17 rfl rfl)
theorem dX1_isLike_18 : decode cX1_isLike 18 = .ok (.istore_n 3, 1) := dk_62 (dk_at dksX1_isLike_0 18 rfl rfl)
theorem dX1_isLike_19 : decode cX1_isLike 19 = .ok (.iload_n 3, 1) := dk_29 (dk_at dksX1_isLike_0 19 rfl rfl)
theorem dX1_isLike_20 : decode cX1_isLike 20 = .ok (.aload_n 0, 1) := dk_42 (dk_at dksX1_isLike_0 20 rfl rfl)
theorem dX1_isLike_21 : decode cX1_isLike 21 = .ok (.getfield 21, 3) := dk_180 0 21 (dk_at dksX1_isLike_0 21 rfl rfl)
theorem dX1_isLike_24 : decode cX1_isLike 24 = .ok (.if_icmp .ge 34, 3) := dk_162 0 34 (dk_at dksX1_isLike_1 0 rfl rfl)
theorem dX1_isLike_27 : decode cX1_isLike 27 = .ok (.iload_n 2, 1) := dk_28 (dk_at dksX1_isLike_1 3 rfl rfl)
theorem dX1_isLike_28 : decode cX1_isLike 28 = .ok (.ifCond .eq 30, 3) := dk_153 0 30 (dk_at dksX1_isLike_1 4 rfl rfl)
theorem dX1_isLike_31 : decode cX1_isLike 31 = .ok (.aload_n 0, 1) := dk_42 (dk_at dksX1_isLike_1 7 rfl rfl)
theorem dX1_isLike_32 : decode cX1_isLike 32 = .ok (.getfield 9, 3) := dk_180 0 9 (dk_at dksX1_isLike_1 8 rfl rfl)
theorem dX1_isLike_35 : decode cX1_isLike 35 = .ok (.iload_n 3, 1) := dk_29 (dk_at dksX1_isLike_1 11 rfl rfl)
theorem dX1_isLike_36 : decode cX1_isLike 36 = .ok (.iaload, 1) := dk_46 (dk_at dksX1_isLike_1 12 rfl rfl)
theorem dX1_isLike_37 : decode cX1_isLike 37 = .ok (.aload_n 1, 1) := dk_43 (dk_at dksX1_isLike_1 13 rfl rfl)
theorem dX1_isLike_38 : decode cX1_isLike 38 = .ok (.getfield 9, 3) := dk_180 0 9 (dk_at dksX1_isLike_1 14 rfl rfl)
theorem dX1_isLike_41 : decode cX1_isLike 41 = .ok (.iload_n 3, 1) := dk_29 (dk_at dksX1_isLike_1 17 rfl rfl)
theorem dX1_isLike_42 : decode cX1_isLike 42 = .ok (.iaload, 1) := dk_46 (dk_at dksX1_isLike_1 18 rfl rfl)
theorem dX1_isLike_43 : decode cX1_isLike 43 = .ok (.if_icmp .ne 7, 3) := dk_160 0 7 (dk_at dksX1_isLike_1 19 rfl rfl)
theorem dX1_isLike_46 : decode cX1_isLike 46 = .ok (.iconst 1, 1) := dk_4 (dk_at dksX1_isLike_1 22 rfl rfl)
theorem dX1_isLike_47 : decode cX1_isLike 47 = .ok (.goto 4, 3) := dk_167 0 4 (dk_at dksX1_isLike_2 0 rfl rfl)
theorem dX1_isLike_50 : decode cX1_isLike 50 = .ok (.iconst 0, 1) := dk_3 (dk_at dksX1_isLike_2 3 rfl rfl)
theorem dX1_isLike_51 : decode cX1_isLike 51 = .ok (.istore_n 2, 1) := dk_61 (dk_at dksX1_isLike_2 4 rfl rfl)
theorem dX1_isLike_52 : decode cX1_isLike 52 = .ok (.iinc 3 1, 3) := dk_132 3 1 (dk_at dksX1_isLike_2 5 rfl rfl)
theorem dX1_isLike_55 : decode cX1_isLike 55 = .ok (.goto (-36), 3) := dk_167 255 220 (dk_at dksX1_isLike_2 8 rfl rfl)
theorem dX1_isLike_58 : decode cX1_isLike 58 = .ok (.iload_n 2, 1) := dk_28 (dk_at dksX1_isLike_2 11 rfl rfl)
theorem dX1_isLike_59 : decode cX1_isLike 59 = .ok (.ireturn, 1) := dk_172 (dk_at dksX1_isLike_2 12 rfl rfl)
def dkwX1_init_0 : List UInt8 := [42, 183, 0, 3, 42, 16, 40, 188, 10, 181, 0, 9, 177]
abbrev dktX1_init_0 : List UInt8 := dkwX1_init_0 ++ []
theorem dksX1_init_0 : cX1_init.data.toList.drop 0 = dktX1_init_0 := by decide +kernel
theorem dX1_init_0 : decode cX1_init 0 = .ok (.aload_n 0, 1) := dk_42 (dk_at dksX1_init_0 0 rfl rfl)
theorem dX1_init_1 : decode cX1_init 1 = .ok (.invokespecial 3, 3) := dk_183 0 3 (dk_at dksX1_init_0 1 rfl rfl)
theorem dX1_init_4 : decode cX1_init 4 = .ok (.aload_n 0, 1) := dk_42 (dk_at dksX1_init_0 4 rfl rfl)
theorem dX1_init_5 : decode cX1_init 5 = .ok (.bipush 40, 2) := dk_16 40 (dk_at dksX1_init_0 5 rfl rfl)
theorem dX1_init_7 : decode cX1_init 7 = .ok (.newarray .int, 2) := dk_188_10 (dk_at dksX1_init_0 7 rfl rfl)
theorem dX1_init_9 : decode cX1_init 9 = .ok (.putfield 9, 3) := dk_181 0 9 (dk_at dksX1_init_0 9 rfl rfl)
theorem dX1_init_12 : decode cX1_init 12 = .ok (.return_, 1) := dk_177 (dk_at dksX1_init_0 12 rfl rfl)
def dkwX2_size_1 : List UInt8 := [160, 0, 14, 42, 180, 0, 13, 192, 0, 19, 190, 167, 0, 11, 42, 180, 0, 13, 192, 0, 21, 190, 172]
abbrev dktX2_size_1 : List UInt8 := dkwX2_size_1 ++ []
def dkwX2_size_0 : List UInt8 := [42, 180, 0, 7, 154, 0, 14, 42, 180, 0, 13, 192, 0, 17, 190, 167, 0, 30, 42, 180, 0, 7, 4]
abbrev dktX2_size_0 : List UInt8 := dkwX2_size_0 ++ dktX2_size_1
theorem dksX2_size_0 : cX2_size.data.toList.drop 0 = dktX2_size_0 := by decide +kernel
theorem dksX2_size_1 : cX2_size.data.toList.drop 23 = dktX2_size_1 := dk_seg dksX2_size_0 23 rfl rfl
theorem dX2_size_0 : decode cX2_size 0 = .ok (.aload_n 0, 1) := dk_42 (dk_at dksX2_size_0 0 rfl rfl)
theorem dX2_size_1 : decode cX2_size 1 = .ok (.getfield 7, 3) := dk_180 0 7 (dk_at dksX2_size_0 1 rfl rfl)
theorem dX2_size_4 : decode cX2_size 4 = .ok (.ifCond .ne 14, 3) := dk_154 0 14 (dk_at dksX2_size_0 4 rfl rfl)
theorem dX2_size_7 : decode cX2_size 7 = .ok (.aload_n 0, 1) := dk_42 (dk_at dksX2_size_0 7 rfl rfl)
theorem dX2_size_8 : decode cX2_size 8 = .ok (.getfield 13, 3) := dk_180 0 13 (dk_at dksX2_size_0 8 rfl rfl)
theorem dX2_size_11 : decode cX2_size 11 = .ok (.checkcast 17, 3) := dk_192 0 17 (dk_at dksX2_size_0 11 rfl rfl)
theorem dX2_size_14 : decode cX2_size 14 = .ok (.arraylength, 1) := dk_190 (dk_at dksX2_size_0 14 rfl rfl)
theorem dX2_size_15 : decode cX2_size 15 = .ok (.goto 30, 3) := dk_167 0 30 (dk_at dksX2_size_0 15 rfl rfl)
theorem dX2_size_18 : decode cX2_size 18 = .ok (.aload_n 0, 1) := dk_42 (dk_at dksX2_size_0 18 rfl rfl)
theorem dX2_size_19 : decode cX2_size 19 = .ok (.getfield 7, 3) := dk_180 0 7 (dk_at dksX2_size_0 19 rfl rfl)
theorem dX2_size_22 : decode cX2_size 22 = .ok (.iconst 1, 1) := dk_4 (dk_at dksX2_size_0 22 rfl rfl)
theorem dX2_size_23 : decode cX2_size 23 = .ok (.if_icmp .ne 14, 3) := dk_160 0 14 (dk_at dksX2_size_1 0 rfl rfl)
theorem dX2_size_26 : decode cX2_size 26 = .ok (.aload_n 0, 1) := dk_42 (dk_at dksX2_size_1 3 rfl rfl)
theorem dX2_size_27 : decode cX2_size 27 = .ok (.getfield 13, 3) := dk_180 0 13 (dk_at dksX2_size_1 4 rfl rfl)
theorem dX2_size_30 : decode cX2_size 30 = .ok (.checkcast 19, 3) := dk_192 0 19 (dk_at dksX2_size_1 7 rfl rfl)
theorem dX2_size_33 : decode cX2_size 33 = .ok (.arraylength, 1) := dk_190 (dk_at dksX2_size_1 10 rfl rfl)
theorem dX2_size_34 : decode cX2_size 34 = .ok (.goto 11, 3) := dk_167 0 11 (dk_at dksX2_size_1 11 rfl rfl)
theorem dX2_size_37 : decode cX2_size 37 = .ok (.aload_n 0, 1) := dk_42 (dk_at dksX2_size_1 14 rfl rfl)
theorem dX2_size_38 : decode cX2_size 38 = .ok (.getfield 13, 3) := dk_180 0 13 (dk_at dksX2_size_1 15 rfl rfl)
theorem dX2_size_41 : decode cX2_size 41 = .ok (.checkcast 21, 3) := dk_192 0 21 (dk_at dksX2_size_1 18 rfl rfl)
theorem dX2_size_44 : decode cX2_size 44 = .ok (.arraylength, 1) := dk_190 (dk_at dksX2_size_1 21 rfl rfl)
theorem dX2_size_45 : decode cX2_size 45 = .ok (.ireturn, 1) := dk_172 (dk_at dksX2_size_1 22 rfl rfl)
def dkwX2_item_0 : List UInt8 := [42, 180, 0, 13, 42, 180, 0, 7, 27, 184, 0, 23, 172]
abbrev dktX2_item_0 : List UInt8 := dkwX2_item_0 ++ []
theorem dksX2_item_0 : cX2_item.data.toList.drop 0 = dktX2_item_0 := by decide +kernel
theorem dX2_item_0 : decode cX2_item 0 = .ok (.aload_n 0, 1) := dk_42 (dk_at dksX2_item_0 0 rfl rfl)
theorem dX2_item_1 : decode cX2_item 1 = .ok (.getfield 13, 3) := dk_180 0 13 (dk_at dksX2_item_0 1 rfl rfl)
theorem dX2_item_4 : decode cX2_item 4 = .ok (.aload_n 0, 1) := dk_42 (dk_at dksX2_item_0 4 rfl rfl)
theorem dX2_item_5 : decode cX2_item 5 = .ok (.getfield 7, 3) := dk_180 0 7 (dk_at dksX2_item_0 5 rfl rfl)
theorem dX2_item_8 : decode cX2_item 8 = .ok (.iload_n 1, 1) := dk_27 (dk_at dksX2_item_0 8 rfl rfl)
theorem dX2_item_9 : decode cX2_item 9 = .ok (.invokestatic 23, 3) := dk_184 0 23 (dk_at dksX2_item_0 9 rfl rfl)
theorem dX2_item_12 : decode cX2_item 12 = .ok (.ireturn, 1) := dk_172 (dk_at dksX2_item_0 12 rfl rfl)
theorem dX2_init_0 : decode cX2_init 0 = .ok (.aload_n 0, 1) := by decide +kernel
theorem dX2_init_1 : decode cX2_init 1 = .ok (.invokespecial 1, 3) := by decide +kernel
theorem dX2_init_4 : decode cX2_init 4 = .ok (.return_, 1) := by decide +kernel
theorem dX3_kind_0 : decode cX3_kind 0 = .ok (.iconst 0, 1) := by decide +kernel
theorem dX3_kind_1 : decode cX3_kind 1 = .ok (.ireturn, 1) := by decide +kernel
def dkwX3_sings_2 : List UInt8 := [132, 3, 1, 167, 255, 214, 177]
abbrev dktX3_sings_2 : List UInt8 := dkwX3_sings_2 ++ []
def dkwX3_sings_1 : List UInt8 := [180, 0, 7, 160, 0, 11, 42, 44, 182, 0, 29, 167, 0, 13, 44, 43, 180, 0, 25, 29, 46, 182, 0, 13]
abbrev dktX3_sings_1 : List UInt8 := dkwX3_sings_1 ++ dktX3_sings_2
def dkwX3_sings_0 : List UInt8 := [44, 3, 181, 0, 22, 3, 62, 29, 43, 180, 0, 22, 162, 0, 40, 43, 180, 0, 25, 29, 46, 42]
abbrev dktX3_sings_0 : List UInt8 := dkwX3_sings_0 ++ dktX3_sings_1
theorem dksX3_sings_0 : cX3_sings.data.toList.drop 0 = dktX3_sings_0 := by decide +kernel
theorem dksX3_sings_1 : cX3_sings.data.toList.drop 22 = dktX3_sings_1 := dk_seg dksX3_sings_0 22 rfl rfl
theorem dksX3_sings_2 : cX3_sings.data.toList.drop 46 = dktX3_sings_2 := dk_seg dksX3_sings_1 24 rfl rfl
theorem dX3_sings_0 : decode cX3_sings 0 = .ok (.aload_n 2, 1) := dk_44 (dk_at dksX3_sings_0 0 rfl rfl)
theorem dX3_sings_1 : decode cX3_sings 1 = .ok (.iconst 0, 1) := dk_3 (dk_at dksX3_sings_0 1 rfl rfl)
theorem dX3_sings_2 : decode cX3_sings 2 = .ok (.putfield 22, 3) := dk_181 0 22 (dk_at dksX3_sings_0 2 rfl rfl)
theorem dX3_sings_5 : decode cX3_sings 5 = .ok (.iconst 0, 1) := dk_3 (dk_at dksX3_sings_0 5 rfl rfl)
theorem dX3_sings_6 : decode cX3_sings 6 = .ok (.istore_n 3, 1) := dk_62 (dk_at dksX3_sings_0 6 rfl rfl)
theorem dX3_sings_7 : decode cX3_sings 7 = .ok (.iload_n 3, 1) := dk_29 (dk_at dksX3_sings_0 7 rfl rfl)
theorem dX3_sings_8 : decode cX3_sings 8 = .ok (.aload_n 1, 1) := dk_43 (dk_at dksX3_sings_0 8 rfl rfl)
theorem dX3_sings_9 : decode cX3_sings 9 = .ok (.getfield 22, 3) := dk_180 0 22 (dk_at dksX3_sings_0 9 rfl rfl)
theorem dX3_sings_12 : decode cX3_sings 12 = .ok (.if_icmp .ge 40, 3) := dk_162 0 40 (dk_at dksX3_sings_0 12 rfl rfl)
theorem dX3_sings_15 : decode cX3_sings 15 = .ok (.aload_n 1, 1) := dk_43 (dk_at dksX3_sings_0 15 rfl rfl)
theorem dX3_sings_16 : decode cX3_sings 16 = .ok (.getfield 25, 3) := dk_180 0 25 (dk_at dksX3_sings_0 16 rfl rfl)
theorem dX3_sings_19 : decode cX3_sings 19 = .ok (.iload_n 3, 1) := dk_29 (dk_at dksX3_sings_0 19 rfl rfl)
theorem dX3_sings_20 : decode cX3_sings 20 = .ok (.iaload, 1) := dk_46 (dk_at dksX3_sings_0 20 rfl rfl)
theorem dX3_sings_21 : decode cX3_sings 21 = .ok (.aload_n 0, 1) := dk_42 (dk_at dksX3_sings_0 21 rfl rfl)
theorem dX3_sings_22 : decode cX3_sings 22 = .ok (.getfield 7, 3) := dk_180 0 7 (dk_at dksX3_sings_1 0 rfl rfl)
theorem dX3_sings_25 : decode cX3_sings 25 = .ok (.if_icmp .ne 11, 3) := dk_160 0 11 (dk_at dksX3_sings_1 3 rfl rfl)
theorem dX3_sings_28 : decode cX3_sings 28 = .ok (.aload_n 0, 1) := dk_42 (dk_at dksX3_sings_1 6 rfl rfl)
theorem dX3_sings_29 : decode cX3_sings 29 = .ok (.aload_n 2, 1) := dk_44 (dk_at dksX3_sings_1 7 rfl rfl)
theorem dX3_sings_30 : decode cX3_sings 30 = .ok (.invokevirtual 29, 3) := dk_182 0 29 (dk_at dksX3_sings_1 8 rfl rfl)
theorem dX3_sings_33 : decode cX3_sings 33 = .ok (.goto 13, 3) := dk_167 0 13 (dk_at dksX3_sings_1 11 rfl rfl)
theorem dX3_sings_36 : decode cX3_sings 36 = .ok (.aload_n 2, 1) := dk_44 (dk_at dksX3_sings_1 14 rfl rfl)
theorem dX3_sings_37 : decode cX3_sings 37 = .ok (.aload_n 1, 1) := dk_43 (dk_at dksX3_sings_1 15 rfl rfl)
theorem dX3_sings_38 : decode cX3_sings 38 = .ok (.getfield 25, 3) := dk_180 0 25 (dk_at dksX3_sings_1 16 rfl rfl)
theorem dX3_sings_41 : decode cX3_sings 41 = .ok (.iload_n 3, 1) := dk_29 (dk_at dksX3_sings_1 19 rfl rfl)
theorem dX3_sings_42 : decode cX3_sings 42 = .ok (.iaload, 1) := dk_46 (dk_at dksX3_sings_1 20 rfl rfl)
theorem dX3_sings_43 : decode cX3_sings 43 = .ok (.invokevirtual 13, 3) := dk_182 0 13 (dk_at dksX3_sings_1 21 rfl rfl)
theorem dX3_sings_46 : decode cX3_sings 46 = .ok (.iinc 3 1, 3) := dk_132 3 1 (dk_at dksX3_sings_2 0 rfl rfl)
theorem dX3_sings_49 : decode cX3_sings 49 = .ok (.goto (-42), 3) := dk_167 255 214 (dk_at dksX3_sings_2 3 rfl rfl)
theorem dX3_sings_52 : decode cX3_sings 52 = .ok (.return_, 1) := dk_177 (dk_at dksX3_sings_2 6 rfl rfl)
def dkwX3_hums_0 : List UInt8 := [43, 42, 180, 0, 7, 182, 0, 13, 43, 42, 180, 0, 19, 182, 0, 13, 177]
abbrev dktX3_hums_0 : List UInt8 := dkwX3_hums_0 ++ []
theorem dksX3_hums_0 : cX3_hums.data.toList.drop 0 = dktX3_hums_0 := by decide +kernel
theorem dX3_hums_0 : decode cX3_hums 0 = .ok (.aload_n 1, 1) := dk_43 (dk_at dksX3_hums_0 0 rfl rfl)
theorem dX3_hums_1 : decode cX3_hums 1 = .ok (.aload_n 0, 1) := dk_42 (dk_at dksX3_hums_0 1 rfl rfl)
theorem dX3_hums_2 : decode cX3_hums 2 = .ok (.getfield 7, 3) := dk_180 0 7 (dk_at dksX3_hums_0 2 rfl rfl)
theorem dX3_hums_5 : decode cX3_hums 5 = .ok (.invokevirtual 13, 3) := dk_182 0 13 (dk_at dksX3_hums_0 5 rfl rfl)
theorem dX3_hums_8 : decode cX3_hums 8 = .ok (.aload_n 1, 1) := dk_43 (dk_at dksX3_hums_0 8 rfl rfl)
theorem dX3_hums_9 : decode cX3_hums 9 = .ok (.aload_n 0, 1) := dk_42 (dk_at dksX3_hums_0 9 rfl rfl)
theorem dX3_hums_10 : decode cX3_hums 10 = .ok (.getfield 19, 3) := dk_180 0 19 (dk_at dksX3_hums_0 10 rfl rfl)
theorem dX3_hums_13 : decode cX3_hums 13 = .ok (.invokevirtual 13, 3) := dk_182 0 13 (dk_at dksX3_hums_0 13 rfl rfl)
theorem dX3_hums_16 : decode cX3_hums 16 = .ok (.return_, 1) := dk_177 (dk_at dksX3_hums_0 16 rfl rfl)
theorem dX3_init_0 : decode cX3_init 0 = .ok (.aload_n 0, 1) := by decide +kernel
theorem dX3_init_1 : decode cX3_init 1 = .ok (.invokespecial 1, 3) := by decide +kernel
theorem dX3_init_4 : decode cX3_init 4 = .ok (.return_, 1) := by decide +kernel
theorem dX4_kind_0 : decode cX4_kind 0 = .ok (.iconst 1, 1) := by decide +kernel
theorem dX4_kind_1 : decode cX4_kind 1 = .ok (.ireturn, 1) := by decide +kernel
theorem dX4_hums_0 : decode cX4_hums 0 = .ok (.return_, 1) := by decide +kernel
theorem dX4_init_0 : decode cX4_init 0 = .ok (.aload_n 0, 1) := by decide +kernel
theorem dX4_init_1 : decode cX4_init 1 = .ok (.invokespecial 1, 3) := by decide +kernel
theorem dX4_init_4 : decode cX4_init 4 = .ok (.return_, 1) := by decide +kernel
theorem dX5_kind_0 : decode cX5_kind 0 = .ok (.iconst 2, 1) := by decide +kernel
theorem dX5_kind_1 : decode cX5_kind 1 = .ok (.ireturn, 1) := by decide +kernel
def dkwX5_hums_0 : List UInt8 := [42, 43, 183, 0, 7, 43, 42, 180, 0, 11, 182, 0, 17, 177]
abbrev dktX5_hums_0 : List UInt8 := dkwX5_hums_0 ++ []
theorem dksX5_hums_0 : cX5_hums.data.toList.drop 0 = dktX5_hums_0 := by decide +kernel
theorem dX5_hums_0 : decode cX5_hums 0 = .ok (.aload_n 0, 1) := dk_42 (dk_at dksX5_hums_0 0 rfl rfl)
theorem dX5_hums_1 : decode cX5_hums 1 = .ok (.aload_n 1, 1) := dk_43 (dk_at dksX5_hums_0 1 rfl rfl)
theorem dX5_hums_2 : decode cX5_hums 2 = .ok (.invokespecial 7, 3) := dk_183 0 7 (dk_at dksX5_hums_0 2 rfl rfl)
theorem dX5_hums_5 : decode cX5_hums 5 = .ok (.aload_n 1, 1) := dk_43 (dk_at dksX5_hums_0 5 rfl rfl)
theorem dX5_hums_6 : decode cX5_hums 6 = .ok (.aload_n 0, 1) := dk_42 (dk_at dksX5_hums_0 6 rfl rfl)
theorem dX5_hums_7 : decode cX5_hums 7 = .ok (.getfield 11, 3) := dk_180 0 11 (dk_at dksX5_hums_0 7 rfl rfl)
theorem dX5_hums_10 : decode cX5_hums 10 = .ok (.invokevirtual 17, 3) := dk_182 0 17 (dk_at dksX5_hums_0 10 rfl rfl)
theorem dX5_hums_13 : decode cX5_hums 13 = .ok (.return_, 1) := dk_177 (dk_at dksX5_hums_0 13 rfl rfl)
theorem dX5_init_0 : decode cX5_init 0 = .ok (.aload_n 0, 1) := by decide +kernel
theorem dX5_init_1 : decode cX5_init 1 = .ok (.invokespecial 1, 3) := by decide +kernel
theorem dX5_init_4 : decode cX5_init 4 = .ok (.return_, 1) := by decide +kernel
