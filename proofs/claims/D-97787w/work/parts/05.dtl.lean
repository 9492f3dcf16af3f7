set_option maxRecDepth 100000
def dkwX0_type_3 : List UInt8 := [180, 0, 13, 27, 46, 172]
abbrev dktX0_type_3 : List UInt8 := dkwX0_type_3 ++ []
def dkwX0_type_2 : List UInt8 := [42, 180, 0, 13, 27, 46, 28, 79, 42, 180, 0, 13, 27, 92, 46, 4, 96, 79, 42, 3, 181, 0, 21, 42]
abbrev dktX0_type_2 : List UInt8 := dkwX0_type_2 ++ dktX0_type_3
def dkwX0_type_1 : List UInt8 := [180, 0, 13, 27, 46, 42, 180, 0, 17, 27, 50, 190, 160, 0, 6, 16, 252, 172, 42, 180, 0, 17, 27, 50]
abbrev dktX0_type_1 : List UInt8 := dkwX0_type_1 ++ dktX0_type_2
def dkwX0_type_0 : List UInt8 := [27, 184, 0, 9, 153, 0, 14, 28, 3, 17, 0, 255, 184, 0, 5, 154, 0, 6, 16, 254, 172, 42]
abbrev dktX0_type_0 : List UInt8 := dkwX0_type_0 ++ dktX0_type_1
theorem dksX0_type_0 : cX0_type.data.toList.drop 0 = dktX0_type_0 := by decide +kernel
theorem dksX0_type_1 : cX0_type.data.toList.drop 22 = dktX0_type_1 := dk_seg dksX0_type_0 22 rfl rfl
theorem dksX0_type_2 : cX0_type.data.toList.drop 46 = dktX0_type_2 := dk_seg dksX0_type_1 24 rfl rfl
theorem dksX0_type_3 : cX0_type.data.toList.drop 70 = dktX0_type_3 := dk_seg dksX0_type_2 24 rfl rfl
theorem dX0_type_0 : decode cX0_type 0 = .ok (.iload_n 1, 1) := dk_27 (dk_at dksX0_type_0 0 rfl rfl)
theorem dX0_type_1 : decode cX0_type 1 = .ok (.invokestatic 9, 3) := dk_184 0 9 (dk_at dksX0_type_0 1 rfl rfl)
theorem dX0_type_4 : decode cX0_type 4 = .ok (.ifCond .eq 14, 3) := dk_153 0 14 (dk_at dksX0_type_0 4 rfl rfl)
theorem dX0_type_7 : decode cX0_type 7 = .ok (.iload_n 2, 1) := dk_28 (dk_at dksX0_type_0 7 rfl rfl)
theorem dX0_type_8 : decode cX0_type 8 = .ok (.iconst 0, 1) := dk_3 (dk_at dksX0_type_0 8 rfl rfl)
theorem dX0_type_9 : decode cX0_type 9 = .ok (.sipush 255, 3) := dk_17 0 255 (dk_at dksX0_type_0 9 rfl rfl)
theorem dX0_type_12 : decode cX0_type 12 = .ok (.invokestatic 5, 3) := dk_184 0 5 (dk_at dksX0_type_0 12 rfl rfl)
theorem dX0_type_15 : decode cX0_type 15 = .ok (.ifCond .ne 6, 3) := dk_154 0 6 (dk_at dksX0_type_0 15 rfl rfl)
theorem dX0_type_18 : decode cX0_type 18 = .ok (.bipush (-2), 2) := dk_16 254 (dk_at dksX0_type_0 18 rfl rfl)
theorem dX0_type_20 : decode cX0_type 20 = .ok (.ireturn, 1) := dk_172 (dk_at dksX0_type_0 20 rfl rfl)
theorem dX0_type_21 : decode cX0_type 21 = .ok (.aload_n 0, 1) := dk_42 (dk_at dksX0_type_0 21 rfl rfl)
theorem dX0_type_22 : decode cX0_type 22 = .ok (.getfield 13, 3) := dk_180 0 13 (dk_at dksX0_type_1 0 rfl rfl)
theorem dX0_type_25 : decode cX0_type 25 = .ok (.iload_n 1, 1) := dk_27 (dk_at dksX0_type_1 3 rfl rfl)
theorem dX0_type_26 : decode cX0_type 26 = .ok (.iaload, 1) := dk_46 (dk_at dksX0_type_1 4 rfl rfl)
theorem dX0_type_27 : decode cX0_type 27 = .ok (.aload_n 0, 1) := dk_42 (dk_at dksX0_type_1 5 rfl rfl)
theorem dX0_type_28 : decode cX0_type 28 = .ok (.getfield 17, 3) := dk_180 0 17 (dk_at dksX0_type_1 6 rfl rfl)
theorem dX0_type_31 : decode cX0_type 31 = .ok (.iload_n 1, 1) := dk_27 (dk_at dksX0_type_1 9 rfl rfl)
theorem dX0_type_32 : decode cX0_type 32 = .ok (.aaload, 1) := dk_50 (dk_at dksX0_type_1 10 rfl rfl)
theorem dX0_type_33 : decode cX0_type 33 = .ok (.arraylength, 1) := dk_190 (dk_at dksX0_type_1 11 rfl rfl)
theorem dX0_type_34 : decode cX0_type 34 = .ok (.if_icmp .ne 6, 3) := dk_160 0 6 (dk_at dksX0_type_1 12 rfl rfl)
theorem dX0_type_37 : decode cX0_type 37 = .ok (.bipush (-4), 2) := dk_16 252 (dk_at dksX0_type_1 15 rfl rfl)
theorem dX0_type_39 : decode cX0_type 39 = .ok (.ireturn, 1) := dk_172 (dk_at dksX0_type_1 17 rfl rfl)
theorem dX0_type_40 : decode cX0_type 40 = .ok (.aload_n 0, 1) := dk_42 (dk_at dksX0_type_1 18 rfl rfl)
theorem dX0_type_41 : decode cX0_type 41 = .ok (.getfield 17, 3) := dk_180 0 17 (dk_at dksX0_type_1 19 rfl rfl)
theorem dX0_type_44 : decode cX0_type 44 = .ok (.iload_n 1, 1) := dk_27 (dk_at dksX0_type_1 22 rfl rfl)
theorem dX0_type_45 : decode cX0_type 45 = .ok (.aaload, 1) := dk_50 (dk_at dksX0_type_1 23 rfl rfl)
theorem dX0_type_46 : decode cX0_type 46 = .ok (.aload_n 0, 1) := dk_42 (dk_at dksX0_type_2 0 rfl rfl)
theorem dX0_type_47 : decode cX0_type 47 = .ok (.getfield 13, 3) := dk_180 0 13 (dk_at dksX0_type_2 1 rfl rfl)
theorem dX0_type_50 : decode cX0_type 50 = .ok (.iload_n 1, 1) := dk_27 (dk_at dksX0_type_2 4 rfl rfl)
theorem dX0_type_51 : decode cX0_type 51 = .ok (.iaload, 1) := dk_46 (dk_at dksX0_type_2 5 rfl rfl)
theorem dX0_type_52 : decode cX0_type 52 = .ok (.iload_n 2, 1) := dk_28 (dk_at dksX0_type_2 6 rfl rfl)
theorem dX0_type_53 : decode cX0_type 53 = .ok (.iastore, 1) := dk_79 (dk_at dksX0_type_2 7 rfl rfl)
theorem dX0_type_54 : decode cX0_type 54 = .ok (.aload_n 0, 1) := dk_42 (dk_at dksX0_type_2 8 rfl rfl)
theorem dX0_type_55 : decode cX0_type 55 = .ok (.getfield 13, 3) := dk_180 0 13 (dk_at dksX0_type_2 9 rfl rfl)
theorem dX0_type_58 : decode cX0_type 58 = .ok (.iload_n 1, 1) := dk_27 (dk_at dksX0_type_2 12 rfl rfl)
theorem dX0_type_59 : decode cX0_type 59 = .ok (.dup2, 1) := dk_92 (dk_at dksX0_type_2 13 rfl rfl)
theorem dX0_type_60 : decode cX0_type 60 = .ok (.iaload, 1) := dk_46 (dk_at dksX0_type_2 14 rfl rfl)
theorem dX0_type_61 : decode cX0_type 61 = .ok (.iconst 1, 1) := dk_4 (dk_at dksX0_type_2 15 rfl rfl)
theorem dX0_type_62 : decode cX0_type 62 = .ok (.iadd, 1) := dk_96 (dk_at dksX0_type_2 16 rfl rfl)
theorem dX0_type_63 : decode cX0_type 63 = .ok (.iastore, 1) := dk_79 (dk_at dksX0_type_2 17 rfl rfl)
theorem dX0_type_64 : decode cX0_type 64 = .ok (.aload_n 0, 1) := dk_42 (dk_at dksX0_type_2 18 rfl rfl)
theorem dX0_type_65 : decode cX0_type 65 = .ok (.iconst 0, 1) := dk_3 (dk_at dksX0_type_2 19 rfl rfl)
theorem dX0_type_66 : decode cX0_type 66 = .ok (.putfield 21, 3) := dk_181 0 21 (dk_at dksX0_type_2 20 rfl rfl)
theorem dX0_type_69 : decode cX0_type 69 = .ok (.aload_n 0, 1) := dk_42 (dk_at dksX0_type_2 23 rfl rfl)
theorem dX0_type_70 : decode cX0_type 70 = .ok (.getfield 13, 3) := dk_180 0 13 (dk_at dksX0_type_3 0 rfl rfl)
theorem dX0_type_73 : decode cX0_type 73 = .ok (.iload_n 1, 1) := dk_27 (dk_at dksX0_type_3 3 rfl rfl)
theorem dX0_type_74 : decode cX0_type 74 = .ok (.iaload, 1) := dk_46 (dk_at dksX0_type_3 4 rfl rfl)
theorem dX0_type_75 : decode cX0_type 75 = .ok (.ireturn, 1) := dk_172 (dk_at dksX0_type_3 5 rfl rfl)
def dkwX0_isTwo_0 : List UInt8 := [26, 3, 4, 184, 0, 5, 172]
abbrev dktX0_isTwo_0 : List UInt8 := dkwX0_isTwo_0 ++ []
theorem dksX0_isTwo_0 : cX0_isTwo.data.toList.drop 0 = dktX0_isTwo_0 := by decide +kernel
theorem dX0_isTwo_0 : decode cX0_isTwo 0 = .ok (.iload_n 0, 1) := dk_26 (dk_at dksX0_isTwo_0 0 rfl rfl)
theorem dX0_isTwo_1 : decode cX0_isTwo 1 = .ok (.iconst 0, 1) := dk_3 (dk_at dksX0_isTwo_0 1 rfl rfl)
theorem dX0_isTwo_2 : decode cX0_isTwo 2 = .ok (.iconst 1, 1) := dk_4 (dk_at dksX0_isTwo_0 2 rfl rfl)
theorem dX0_isTwo_3 : decode cX0_isTwo 3 = .ok (.invokestatic 5, 3) := dk_184 0 5 (dk_at dksX0_isTwo_0 3 rfl rfl)
theorem dX0_isTwo_6 : decode cX0_isTwo 6 = .ok (.ireturn, 1) := dk_172 (dk_at dksX0_isTwo_0 6 rfl rfl)
def dkwX0_in_0 : List UInt8 := [26, 27, 161, 0, 12, 26, 28, 163, 0, 7, 4, 167, 0, 4, 3, 172]
abbrev dktX0_in_0 : List UInt8 := dkwX0_in_0 ++ []
theorem dksX0_in_0 : cX0_in.data.toList.drop 0 = dktX0_in_0 := by decide +kernel
theorem dX0_in_0 : decode cX0_in 0 = .ok (.iload_n 0, 1) := dk_26 (dk_at dksX0_in_0 0 rfl rfl)
theorem dX0_in_1 : decode cX0_in 1 = .ok (.iload_n 1, 1) := dk_27 (dk_at dksX0_in_0 1 rfl rfl)
theorem dX0_in_2 : decode cX0_in 2 = .ok (.if_icmp .lt 12, 3) := dk_161 0 12 (dk_at dksX0_in_0 2 rfl rfl)
theorem dX0_in_5 : decode cX0_in 5 = .ok (.iload_n 0, 1) := dk_26 (dk_at dksX0_in_0 5 rfl rfl)
theorem dX0_in_6 : decode cX0_in 6 = .ok (.iload_n 2, 1) := dk_28 (dk_at dksX0_in_0 6 rfl rfl)
theorem dX0_in_7 : decode cX0_in 7 = .ok (.if_icmp .gt 7, 3) := dk_163 0 7 (dk_at dksX0_in_0 7 rfl rfl)
theorem dX0_in_10 : decode cX0_in 10 = .ok (.iconst 1, 1) := dk_4 (dk_at dksX0_in_0 10 rfl rfl)
theorem dX0_in_11 : decode cX0_in 11 = .ok (.goto 4, 3) := dk_167 0 4 (dk_at dksX0_in_0 11 rfl rfl)
theorem dX0_in_14 : decode cX0_in 14 = .ok (.iconst 0, 1) := dk_3 (dk_at dksX0_in_0 14 rfl rfl)
theorem dX0_in_15 : decode cX0_in 15 = .ok (.ireturn, 1) := dk_172 (dk_at dksX0_in_0 15 rfl rfl)
def dkwX0_wipe_1 : List UInt8 := [42, 3, 181, 0, 21, 28, 172]
abbrev dktX0_wipe_1 : List UInt8 := dkwX0_wipe_1 ++ []
def dkwX0_wipe_0 : List UInt8 := [27, 184, 0, 9, 154, 0, 6, 16, 254, 172, 42, 180, 0, 13, 27, 46, 61, 42, 180, 0, 13, 27, 3, 79]
abbrev dktX0_wipe_0 : List UInt8 := dkwX0_wipe_0 ++ dktX0_wipe_1
theorem dksX0_wipe_0 : cX0_wipe.data.toList.drop 0 = dktX0_wipe_0 := by decide +kernel
theorem dksX0_wipe_1 : cX0_wipe.data.toList.drop 24 = dktX0_wipe_1 := dk_seg dksX0_wipe_0 24 rfl rfl
theorem dX0_wipe_0 : decode cX0_wipe 0 = .ok (.iload_n 1, 1) := dk_27 (dk_at dksX0_wipe_0 0 rfl rfl)
theorem dX0_wipe_1 : decode cX0_wipe 1 = .ok (.invokestatic 9, 3) := dk_184 0 9 (dk_at dksX0_wipe_0 1 rfl rfl)
theorem dX0_wipe_4 : decode cX0_wipe 4 = .ok (.ifCond .ne 6, 3) := dk_154 0 6 (dk_at dksX0_wipe_0 4 rfl rfl)
theorem dX0_wipe_7 : decode cX0_wipe 7 = .ok (.bipush (-2), 2) := dk_16 254 (dk_at dksX0_wipe_0 7 rfl rfl)
theorem dX0_wipe_9 : decode cX0_wipe 9 = .ok (.ireturn, 1) := dk_172 (dk_at dksX0_wipe_0 9 rfl rfl)
theorem dX0_wipe_10 : decode cX0_wipe 10 = .ok (.aload_n 0, 1) := dk_42 (dk_at dksX0_wipe_0 10 rfl rfl)
theorem dX0_wipe_11 : decode cX0_wipe 11 = .ok (.getfield 13, 3) := dk_180 0 13 (dk_at dksX0_wipe_0 11 rfl rfl)
theorem dX0_wipe_14 : decode cX0_wipe 14 = .ok (.iload_n 1, 1) := dk_27 (dk_at dksX0_wipe_0 14 rfl rfl)
theorem dX0_wipe_15 : decode cX0_wipe 15 = .ok (.iaload, 1) := dk_46 (dk_at dksX0_wipe_0 15 rfl rfl)
theorem dX0_wipe_16 : decode cX0_wipe 16 = .ok (.istore_n 2, 1) := dk_61 (dk_at dksX0_wipe_0 16 rfl rfl)
theorem dX0_wipe_17 : decode cX0_wipe 17 = .ok (.aload_n 0, 1) := dk_42 (dk_at dksX0_wipe_0 17 rfl rfl)
theorem dX0_wipe_18 : decode cX0_wipe 18 = .ok (.getfield 13, 3) := dk_180 0 13 (dk_at dksX0_wipe_0 18 rfl rfl)
theorem dX0_wipe_21 : decode cX0_wipe 21 = .ok (.iload_n 1, 1) := dk_27 (dk_at dksX0_wipe_0 21 rfl rfl)
theorem dX0_wipe_22 : decode cX0_wipe 22 = .ok (.iconst 0, 1) := dk_3 (dk_at dksX0_wipe_0 22 rfl rfl)
theorem dX0_wipe_23 : decode cX0_wipe 23 = .ok (.iastore, 1) := dk_79 (dk_at dksX0_wipe_0 23 rfl rfl)
theorem dX0_wipe_24 : decode cX0_wipe 24 = .ok (.aload_n 0, 1) := dk_42 (dk_at dksX0_wipe_1 0 rfl rfl)
theorem dX0_wipe_25 : decode cX0_wipe 25 = .ok (.iconst 0, 1) := dk_3 (dk_at dksX0_wipe_1 1 rfl rfl)
theorem dX0_wipe_26 : decode cX0_wipe 26 = .ok (.putfield 21, 3) := dk_181 0 21 (dk_at dksX0_wipe_1 2 rfl rfl)
theorem dX0_wipe_29 : decode cX0_wipe 29 = .ok (.iload_n 2, 1) := dk_28 (dk_at dksX0_wipe_1 5 rfl rfl)
theorem dX0_wipe_30 : decode cX0_wipe 30 = .ok (.ireturn, 1) := dk_172 (dk_at dksX0_wipe_1 6 rfl rfl)
def dkwX0_undo_1 : List UInt8 := [180, 0, 13, 27, 92, 46, 4, 100, 79, 42, 3, 181, 0, 21, 42, 180, 0, 13, 27, 46, 172]
abbrev dktX0_undo_1 : List UInt8 := dkwX0_undo_1 ++ []
def dkwX0_undo_0 : List UInt8 := [27, 184, 0, 9, 154, 0, 6, 16, 254, 172, 42, 180, 0, 13, 27, 46, 154, 0, 6, 16, 253, 172, 42]
abbrev dktX0_undo_0 : List UInt8 := dkwX0_undo_0 ++ dktX0_undo_1
theorem dksX0_undo_0 : cX0_undo.data.toList.drop 0 = dktX0_undo_0 := by decide +kernel
theorem dksX0_undo_1 : cX0_undo.data.toList.drop 23 = dktX0_undo_1 := dk_seg dksX0_undo_0 23 rfl rfl
theorem dX0_undo_0 : decode cX0_undo 0 = .ok (.iload_n 1, 1) := dk_27 (dk_at dksX0_undo_0 0 rfl rfl)
theorem dX0_undo_1 : decode cX0_undo 1 = .ok (.invokestatic 9, 3) := dk_184 0 9 (dk_at dksX0_undo_0 1 rfl rfl)
theorem dX0_undo_4 : decode cX0_undo 4 = .ok (.ifCond .ne 6, 3) := dk_154 0 6 (dk_at dksX0_undo_0 4 rfl rfl)
theorem dX0_undo_7 : decode cX0_undo 7 = .ok (.bipush (-2), 2) := dk_16 254 (dk_at dksX0_undo_0 7 rfl rfl)
theorem dX0_undo_9 : decode cX0_undo 9 = .ok (.ireturn, 1) := dk_172 (dk_at dksX0_undo_0 9 rfl rfl)
theorem dX0_undo_10 : decode cX0_undo 10 = .ok (.aload_n 0, 1) := dk_42 (dk_at dksX0_undo_0 10 rfl rfl)
theorem dX0_undo_11 : decode cX0_undo 11 = .ok (.getfield 13, 3) := dk_180 0 13 (dk_at dksX0_undo_0 11 rfl rfl)
theorem dX0_undo_14 : decode cX0_undo 14 = .ok (.iload_n 1, 1) := dk_27 (dk_at dksX0_undo_0 14 rfl rfl)
theorem dX0_undo_15 : decode cX0_undo 15 = .ok (.iaload, 1) := dk_46 (dk_at dksX0_undo_0 15 rfl rfl)
theorem dX0_undo_16 : decode cX0_undo 16 = .ok (.ifCond .ne 6, 3) := dk_154 0 6 (dk_at dksX0_undo_0 16 rfl rfl)
theorem dX0_undo_19 : decode cX0_undo 19 = .ok (.bipush (-3), 2) := dk_16 253 (dk_at dksX0_undo_0 19 rfl rfl)
theorem dX0_undo_21 : decode cX0_undo 21 = .ok (.ireturn, 1) := dk_172 (dk_at dksX0_undo_0 21 rfl rfl)
theorem dX0_undo_22 : decode cX0_undo 22 = .ok (.aload_n 0, 1) := dk_42 (dk_at dksX0_undo_0 22 rfl rfl)
theorem dX0_undo_23 : decode cX0_undo 23 = .ok (.getfield 13, 3) := dk_180 0 13 (dk_at dksX0_undo_1 0 rfl rfl)
theorem dX0_undo_26 : decode cX0_undo 26 = .ok (.iload_n 1, 1) := dk_27 (dk_at dksX0_undo_1 3 rfl rfl)
theorem dX0_undo_27 : decode cX0_undo 27 = .ok (.dup2, 1) := dk_92 (dk_at dksX0_undo_1 4 rfl rfl)
theorem dX0_undo_28 : decode cX0_undo 28 = .ok (.iaload, 1) := dk_46 (dk_at dksX0_undo_1 5 rfl rfl)
theorem dX0_undo_29 : decode cX0_undo 29 = .ok (.iconst 1, 1) := dk_4 (dk_at dksX0_undo_1 6 rfl rfl)
theorem dX0_undo_30 : decode cX0_undo 30 = .ok (.isub, 1) := dk_100 (dk_at dksX0_undo_1 7 rfl rfl)
theorem dX0_undo_31 : decode cX0_undo 31 = .ok (.iastore, 1) := dk_79 (dk_at dksX0_undo_1 8 rfl rfl)
theorem dX0_undo_32 : decode cX0_undo 32 = .ok (.aload_n 0, 1) := dk_42 (dk_at dksX0_undo_1 9 rfl rfl)
theorem dX0_undo_33 : decode cX0_undo 33 = .ok (.iconst 0, 1) := dk_3 (dk_at dksX0_undo_1 10 rfl rfl)
theorem dX0_undo_34 : decode cX0_undo 34 = .ok (.putfield 21, 3) := dk_181 0 21 (dk_at dksX0_undo_1 11 rfl rfl)
theorem dX0_undo_37 : decode cX0_undo 37 = .ok (.aload_n 0, 1) := dk_42 (dk_at dksX0_undo_1 14 rfl rfl)
theorem dX0_undo_38 : decode cX0_undo 38 = .ok (.getfield 13, 3) := dk_180 0 13 (dk_at dksX0_undo_1 15 rfl rfl)
theorem dX0_undo_41 : decode cX0_undo 41 = .ok (.iload_n 1, 1) := dk_27 (dk_at dksX0_undo_1 18 rfl rfl)
theorem dX0_undo_42 : decode cX0_undo 42 = .ok (.iaload, 1) := dk_46 (dk_at dksX0_undo_1 19 rfl rfl)
theorem dX0_undo_43 : decode cX0_undo 43 = .ok (.ireturn, 1) := dk_172 (dk_at dksX0_undo_1 20 rfl rfl)
def dkwX0_fault_0 : List UInt8 := [27, 184, 0, 9, 153, 0, 11, 42, 27, 182, 0, 79, 167, 0, 5, 16, 254, 172]
abbrev dktX0_fault_0 : List UInt8 := dkwX0_fault_0 ++ []
theorem dksX0_fault_0 : cX0_fault.data.toList.drop 0 = dktX0_fault_0 := by decide +kernel
theorem dX0_fault_0 : decode cX0_fault 0 = .ok (.iload_n 1, 1) := dk_27 (dk_at dksX0_fault_0 0 rfl rfl)
theorem dX0_fault_1 : decode cX0_fault 1 = .ok (.invokestatic 9, 3) := dk_184 0 9 (dk_at dksX0_fault_0 1 rfl rfl)
theorem dX0_fault_4 : decode cX0_fault 4 = .ok (.ifCond .eq 11, 3) := dk_153 0 11 (dk_at dksX0_fault_0 4 rfl rfl)
theorem dX0_fault_7 : decode cX0_fault 7 = .ok (.aload_n 0, 1) := dk_42 (dk_at dksX0_fault_0 7 rfl rfl)
theorem dX0_fault_8 : decode cX0_fault 8 = .ok (.iload_n 1, 1) := dk_27 (dk_at dksX0_fault_0 8 rfl rfl)
theorem dX0_fault_9 : decode cX0_fault 9 = .ok (.invokevirtual 79, 3) := dk_182 0 79 (dk_at dksX0_fault_0 9 rfl rfl)
theorem dX0_fault_12 : decode cX0_fault 12 = .ok (.goto 5, 3) := dk_167 0 5 (dk_at dksX0_fault_0 12 rfl rfl)
theorem dX0_fault_15 : decode cX0_fault 15 = .ok (.bipush (-2), 2) := dk_16 254 (dk_at dksX0_fault_0 15 rfl rfl)
theorem dX0_fault_17 : decode cX0_fault 17 = .ok (.ireturn, 1) := dk_172 (dk_at dksX0_fault_0 17 rfl rfl)
def dkwX0_faultOf_0 : List UInt8 := [42, 182, 0, 75, 42, 180, 0, 65, 27, 46, 172]
abbrev dktX0_faultOf_0 : List UInt8 := dkwX0_faultOf_0 ++ []
theorem dksX0_faultOf_0 : cX0_faultOf.data.toList.drop 0 = dktX0_faultOf_0 := by decide +kernel
theorem dX0_faultOf_0 : decode cX0_faultOf 0 = .ok (.aload_n 0, 1) := dk_42 (dk_at dksX0_faultOf_0 0 rfl rfl)
theorem dX0_faultOf_1 : decode cX0_faultOf 1 = .ok (.invokevirtual 75, 3) := dk_182 0 75 (dk_at dksX0_faultOf_0 1 rfl rfl)
theorem dX0_faultOf_4 : decode cX0_faultOf 4 = .ok (.aload_n 0, 1) := dk_42 (dk_at dksX0_faultOf_0 4 rfl rfl)
theorem dX0_faultOf_5 : decode cX0_faultOf 5 = .ok (.getfield 65, 3) := dk_180 0 65 (dk_at dksX0_faultOf_0 5 rfl rfl)
theorem dX0_faultOf_8 : decode cX0_faultOf 8 = .ok (.iload_n 1, 1) := dk_27 (dk_at dksX0_faultOf_0 8 rfl rfl)
theorem dX0_faultOf_9 : decode cX0_faultOf 9 = .ok (.iaload, 1) := dk_46 (dk_at dksX0_faultOf_0 9 rfl rfl)
theorem dX0_faultOf_10 : decode cX0_faultOf 10 = .ok (.ireturn, 1) := dk_172 (dk_at dksX0_faultOf_0 10 rfl rfl)
def dkwX0_reads_1 : List UInt8 := [180, 0, 65, 4, 42, 182, 0, 72, 79, 177]
abbrev dktX0_reads_1 : List UInt8 := dkwX0_reads_1 ++ []
def dkwX0_reads_0 : List UInt8 := [42, 180, 0, 21, 154, 0, 28, 42, 4, 181, 0, 21, 42, 180, 0, 65, 3, 42, 182, 0, 68, 79, 42]
abbrev dktX0_reads_0 : List UInt8 := dkwX0_reads_0 ++ dktX0_reads_1
theorem dksX0_reads_0 : cX0_reads.data.toList.drop 0 = dktX0_reads_0 := by decide +kernel
theorem dksX0_reads_1 : cX0_reads.data.toList.drop 23 = dktX0_reads_1 := dk_seg dksX0_reads_0 23 rfl rfl
theorem dX0_reads_0 : decode cX0_reads 0 = .ok (.aload_n 0, 1) := dk_42 (dk_at dksX0_reads_0 0 rfl rfl)
theorem dX0_reads_1 : decode cX0_reads 1 = .ok (.getfield 21, 3) := dk_180 0 21 (dk_at dksX0_reads_0 1 rfl rfl)
theorem dX0_reads_4 : decode cX0_reads 4 = .ok (.ifCond .ne 28, 3) := dk_154 0 28 (dk_at dksX0_reads_0 4 rfl rfl)
theorem dX0_reads_7 : decode cX0_reads 7 = .ok (.aload_n 0, 1) := dk_42 (dk_at dksX0_reads_0 7 rfl rfl)
theorem dX0_reads_8 : decode cX0_reads 8 = .ok (.iconst 1, 1) := dk_4 (dk_at dksX0_reads_0 8 rfl rfl)
theorem dX0_reads_9 : decode cX0_reads 9 = .ok (.putfield 21, 3) := dk_181 0 21 (dk_at dksX0_reads_0 9 rfl rfl)
theorem dX0_reads_12 : decode cX0_reads 12 = .ok (.aload_n 0, 1) := dk_42 (dk_at dksX0_reads_0 12 rfl rfl)
theorem dX0_reads_13 : decode cX0_reads 13 = .ok (.getfield 65, 3) := dk_180 0 65 (dk_at dksX0_reads_0 13 rfl rfl)
theorem dX0_reads_16 : decode cX0_reads 16 = .ok (.iconst 0, 1) := dk_3 (dk_at dksX0_reads_0 16 rfl rfl)
theorem dX0_reads_17 : decode cX0_reads 17 = .ok (.aload_n 0, 1) := dk_42 (dk_at dksX0_reads_0 17 rfl rfl)
theorem dX0_reads_18 : decode cX0_reads 18 = .ok (.invokevirtual 68, 3) := dk_182 0 68 (dk_at dksX0_reads_0 18 rfl rfl)
theorem dX0_reads_21 : decode cX0_reads 21 = .ok (.iastore, 1) := dk_79 (dk_at dksX0_reads_0 21 rfl rfl)
theorem dX0_reads_22 : decode cX0_reads 22 = .ok (.aload_n 0, 1) := dk_42 (dk_at dksX0_reads_0 22 rfl rfl)
theorem dX0_reads_23 : decode cX0_reads 23 = .ok (.getfield 65, 3) := dk_180 0 65 (dk_at dksX0_reads_1 0 rfl rfl)
theorem dX0_reads_26 : decode cX0_reads 26 = .ok (.iconst 1, 1) := dk_4 (dk_at dksX0_reads_1 3 rfl rfl)
theorem dX0_reads_27 : decode cX0_reads 27 = .ok (.aload_n 0, 1) := dk_42 (dk_at dksX0_reads_1 4 rfl rfl)
theorem dX0_reads_28 : decode cX0_reads 28 = .ok (.invokevirtual 72, 3) := dk_182 0 72 (dk_at dksX0_reads_1 5 rfl rfl)
theorem dX0_reads_31 : decode cX0_reads 31 = .ok (.iastore, 1) := dk_79 (dk_at dksX0_reads_1 8 rfl rfl)
theorem dX0_reads_32 : decode cX0_reads 32 = .ok (.return_, 1) := dk_177 (dk_at dksX0_reads_1 9 rfl rfl)
def dkwX0_readsTunes_6 : List UInt8 := [153, 0, 7, 4, 167, 0, 4, 3, 96, 61, 167, 255, 129, 42, 27, 181, 0, 25, 2, 172]
abbrev dktX0_readsTunes_6 : List UInt8 := dkwX0_readsTunes_6 ++ []
def dkwX0_readsTunes_5 : List UInt8 := [62, 29, 153, 0, 18, 42, 180, 0, 17, 3, 50, 28, 46, 16, 59, 159, 0, 5, 28, 172, 28, 29]
abbrev dktX0_readsTunes_5 : List UInt8 := dkwX0_readsTunes_5 ++ dktX0_readsTunes_6
def dkwX0_readsTunes_4 : List UInt8 := [132, 2, 1, 167, 255, 214, 132, 1, 1, 28, 42, 180, 0, 13, 3, 46, 162, 0, 7, 4, 167, 0, 4, 3]
abbrev dktX0_readsTunes_4 : List UInt8 := dkwX0_readsTunes_4 ++ dktX0_readsTunes_5
def dkwX0_readsTunes_3 : List UInt8 := [50, 180, 0, 37, 16, 12, 162, 0, 24, 42, 180, 0, 33, 27, 50, 42, 3, 28, 182, 0, 29, 182, 0, 42]
abbrev dktX0_readsTunes_3 : List UInt8 := dkwX0_readsTunes_3 ++ dktX0_readsTunes_4
def dkwX0_readsTunes_2 : List UInt8 := [180, 0, 33, 27, 50, 3, 181, 0, 37, 42, 3, 28, 182, 0, 29, 2, 159, 0, 38, 42, 180, 0, 33, 27]
abbrev dktX0_readsTunes_2 : List UInt8 := dkwX0_readsTunes_2 ++ dktX0_readsTunes_3
def dkwX0_readsTunes_1 : List UInt8 := [29, 153, 0, 129, 27, 16, 6, 159, 0, 13, 42, 3, 28, 182, 0, 29, 2, 160, 0, 5, 28, 172, 42]
abbrev dktX0_readsTunes_1 : List UInt8 := dkwX0_readsTunes_1 ++ dktX0_readsTunes_2
def dkwX0_readsTunes_0 : List UInt8 := [3, 60, 3, 61, 42, 180, 0, 13, 3, 46, 158, 0, 7, 4, 167, 0, 4, 3, 62, 42, 3, 181, 0, 25]
abbrev dktX0_readsTunes_0 : List UInt8 := dkwX0_readsTunes_0 ++ dktX0_readsTunes_1
theorem dksX0_readsTunes_0 : cX0_readsTunes.data.toList.drop 0 = dktX0_readsTunes_0 := by decide +kernel
theorem dksX0_readsTunes_1 : cX0_readsTunes.data.toList.drop 24 = dktX0_readsTunes_1 := dk_seg dksX0_readsTunes_0 24 rfl rfl
theorem dksX0_readsTunes_2 : cX0_readsTunes.data.toList.drop 47 = dktX0_readsTunes_2 := dk_seg dksX0_readsTunes_1 23 rfl rfl
theorem dksX0_readsTunes_3 : cX0_readsTunes.data.toList.drop 71 = dktX0_readsTunes_3 := dk_seg dksX0_readsTunes_2 24 rfl rfl
theorem dksX0_readsTunes_4 : cX0_readsTunes.data.toList.drop 95 = dktX0_readsTunes_4 := dk_seg dksX0_readsTunes_3 24 rfl rfl
theorem dksX0_readsTunes_5 : cX0_readsTunes.data.toList.drop 119 = dktX0_readsTunes_5 := dk_seg dksX0_readsTunes_4 24 rfl rfl
theorem dksX0_readsTunes_6 : cX0_readsTunes.data.toList.drop 141 = dktX0_readsTunes_6 := dk_seg dksX0_readsTunes_5 22 rfl rfl
theorem dX0_readsTunes_0 : decode cX0_readsTunes 0 = .ok (.iconst 0, 1) := dk_3 (dk_at dksX0_readsTunes_0 0 rfl rfl)
theorem dX0_readsTunes_1 : decode cX0_readsTunes 1 = .ok (.istore_n 1, 1) := dk_60 (dk_at dksX0_readsTunes_0 1 rfl rfl)
theorem dX0_readsTunes_2 : decode cX0_readsTunes 2 = .ok (.iconst 0, 1) := dk_3 (dk_at dksX0_readsTunes_0 2 rfl rfl)
theorem dX0_readsTunes_3 : decode cX0_readsTunes 3 = .ok (.istore_n 2, 1) := dk_61 (dk_at dksX0_readsTunes_0 3 rfl rfl)
theorem dX0_readsTunes_4 : decode cX0_readsTunes 4 = .ok (.aload_n 0, 1) := dk_42 (dk_at dksX0_readsTunes_0 4 rfl rfl)
theorem dX0_readsTunes_5 : decode cX0_readsTunes 5 = .ok (.getfield 13, 3) := dk_180 0 13 (dk_at dksX0_readsTunes_0 5 rfl rfl)
theorem dX0_readsTunes_8 : decode cX0_readsTunes 8 = .ok (.iconst 0, 1) := dk_3 (dk_at dksX0_readsTunes_0 8 rfl rfl)
theorem dX0_readsTunes_9 : decode cX0_readsTunes 9 = .ok (.iaload, 1) := dk_46 (dk_at dksX0_readsTunes_0 9 rfl rfl)
theorem dX0_readsTunes_10 : decode cX0_readsTunes 10 = .ok (.ifCond .le 7, 3) := dk_158 0 7 (dk_at dksX0_readsTunes_0 10 rfl rfl)
theorem dX0_readsTunes_13 : decode cX0_readsTunes 13 = .ok (.iconst 1, 1) := dk_4 (dk_at dksX0_readsTunes_0 13 rfl rfl)
theorem dX0_readsTunes_14 : decode cX0_readsTunes 14 = .ok (.goto 4, 3) := dk_167 0 4 (dk_at dksX0_readsTunes_0 14 rfl rfl)
theorem dX0_readsTunes_17 : decode cX0_readsTunes 17 = .ok (.iconst 0, 1) := dk_3 (dk_at dksX0_readsTunes_0 17 rfl rfl)
theorem dX0_readsTunes_18 : decode cX0_readsTunes 18 = .ok (.istore_n 3, 1) := dk_62 (dk_at dksX0_readsTunes_0 18 rfl rfl)
theorem dX0_readsTunes_19 : decode cX0_readsTunes 19 = .ok (.aload_n 0, 1) := dk_42 (dk_at dksX0_readsTunes_0 19 rfl rfl)
theorem dX0_readsTunes_20 : decode cX0_readsTunes 20 = .ok (.iconst 0, 1) := dk_3 (dk_at dksX0_readsTunes_0 20 rfl rfl)
theorem dX0_readsTunes_21 : decode cX0_readsTunes 21 = .ok (.putfield 25, 3) := dk_181 0 25 (dk_at dksX0_readsTunes_0 21 rfl rfl)
theorem dX0_readsTunes_24 : decode cX0_readsTunes 24 = .ok (.iload_n 3, 1) := dk_29 (dk_at dksX0_readsTunes_1 0 rfl rfl)
theorem dX0_readsTunes_25 : decode cX0_readsTunes 25 = .ok (.ifCond .eq 129, 3) := dk_153 0 129 (dk_at dksX0_readsTunes_1 1 rfl rfl)
theorem dX0_readsTunes_28 : decode cX0_readsTunes 28 = .ok (.iload_n 1, 1) := dk_27 (dk_at dksX0_readsTunes_1 4 rfl rfl)
theorem dX0_readsTunes_29 : decode cX0_readsTunes 29 = .ok (.bipush 6, 2) := dk_16 6 (dk_at dksX0_readsTunes_1 5 rfl rfl)
theorem dX0_readsTunes_31 : decode cX0_readsTunes 31 = .ok (.if_icmp .eq 13, 3) := dk_159 0 13 (dk_at dksX0_readsTunes_1 7 rfl rfl)
theorem dX0_readsTunes_34 : decode cX0_readsTunes 34 = .ok (.aload_n 0, 1) := dk_42 (dk_at dksX0_readsTunes_1 10 rfl rfl)
theorem dX0_readsTunes_35 : decode cX0_readsTunes 35 = .ok (.iconst 0, 1) := dk_3 (dk_at dksX0_readsTunes_1 11 rfl rfl)
theorem dX0_readsTunes_36 : decode cX0_readsTunes 36 = .ok (.iload_n 2, 1) := dk_28 (dk_at dksX0_readsTunes_1 12 rfl rfl)
theorem dX0_readsTunes_37 : decode cX0_readsTunes 37 = .ok (.invokevirtual 29, 3) := dk_182 0 29 (dk_at dksX0_readsTunes_1 13 rfl rfl)
theorem dX0_readsTunes_40 : decode cX0_readsTunes 40 = .ok (.iconst (-1), 1) := dk_2 (dk_at dksX0_readsTunes_1 16 rfl rfl)
theorem dX0_readsTunes_41 : decode cX0_readsTunes 41 = .ok (.if_icmp .ne 5, 3) := dk_160 0 5 (dk_at dksX0_readsTunes_1 17 rfl rfl)
theorem dX0_readsTunes_44 : decode cX0_readsTunes 44 = .ok (.iload_n 2, 1) := dk_28 (dk_at dksX0_readsTunes_1 20 rfl rfl)
theorem dX0_readsTunes_45 : decode cX0_readsTunes 45 = .ok (.ireturn, 1) := dk_172 (dk_at dksX0_readsTunes_1 21 rfl rfl)
theorem dX0_readsTunes_46 : decode cX0_readsTunes 46 = .ok (.aload_n 0, 1) := dk_42 (dk_at dksX0_readsTunes_1 22 rfl rfl)
theorem dX0_readsTunes_47 : decode cX0_readsTunes 47 = .ok (.getfield 33, 3) := dk_180 0 33 (dk_at dksX0_readsTunes_2 0 rfl rfl)
theorem dX0_readsTunes_50 : decode cX0_readsTunes 50 = .ok (.iload_n 1, 1) := dk_27 (dk_at dksX0_readsTunes_2 3 rfl rfl)
theorem dX0_readsTunes_51 : decode cX0_readsTunes 51 = .ok (.aaload, 1) := dk_50 (dk_at dksX0_readsTunes_2 4 rfl rfl)
theorem dX0_readsTunes_52 : decode cX0_readsTunes 52 = .ok (.iconst 0, 1) := dk_3 (dk_at dksX0_readsTunes_2 5 rfl rfl)
theorem dX0_readsTunes_53 : decode cX0_readsTunes 53 = .ok (.putfield 37, 3) := dk_181 0 37 (dk_at dksX0_readsTunes_2 6 rfl rfl)
theorem dX0_readsTunes_56 : decode cX0_readsTunes 56 = .ok (.aload_n 0, 1) := dk_42 (dk_at dksX0_readsTunes_2 9 rfl rfl)
theorem dX0_readsTunes_57 : decode cX0_readsTunes 57 = .ok (.iconst 0, 1) := dk_3 (dk_at dksX0_readsTunes_2 10 rfl rfl)
theorem dX0_readsTunes_58 : decode cX0_readsTunes 58 = .ok (.iload_n 2, 1) := dk_28 (dk_at dksX0_readsTunes_2 11 rfl rfl)
theorem dX0_readsTunes_59 : decode cX0_readsTunes 59 = .ok (.invokevirtual 29, 3) := dk_182 0 29 (dk_at dksX0_readsTunes_2 12 rfl rfl)
theorem dX0_readsTunes_62 : decode cX0_readsTunes 62 = .ok (.iconst (-1), 1) := dk_2 (dk_at dksX0_readsTunes_2 15 rfl rfl)
theorem dX0_readsTunes_63 : decode cX0_readsTunes 63 = .ok (.if_icmp .eq 38, 3) := dk_159 0 38 (dk_at dksX0_readsTunes_2 16 rfl rfl)
theorem dX0_readsTunes_66 : decode cX0_readsTunes 66 = .ok (.aload_n 0, 1) := dk_42 (dk_at dksX0_readsTunes_2 19 rfl rfl)
theorem dX0_readsTunes_67 : decode cX0_readsTunes 67 = .ok (.getfield 33, 3) := dk_180 0 33 (dk_at dksX0_readsTunes_2 20 rfl rfl)
theorem dX0_readsTunes_70 : decode cX0_readsTunes 70 = .ok (.iload_n 1, 1) := dk_27 (dk_at dksX0_readsTunes_2 23 rfl rfl)
theorem dX0_readsTunes_71 : decode cX0_readsTunes 71 = .ok (.aaload, 1) := dk_50 (dk_at dksX0_readsTunes_3 0 rfl rfl)
theorem dX0_readsTunes_72 : decode cX0_readsTunes 72 = .ok (.getfield 37, 3) := dk_180 0 37 (dk_at dksX0_readsTunes_3 1 rfl rfl)
theorem dX0_readsTunes_75 : decode cX0_readsTunes 75 = .ok (.bipush 12, 2) := dk_16 12 (dk_at dksX0_readsTunes_3 4 rfl rfl)
theorem dX0_readsTunes_77 : decode cX0_readsTunes 77 = .ok (.if_icmp .ge 24, 3) := dk_162 0 24 (dk_at dksX0_readsTunes_3 6 rfl rfl)
theorem dX0_readsTunes_80 : decode cX0_readsTunes 80 = .ok (.aload_n 0, 1) := dk_42 (dk_at dksX0_readsTunes_3 9 rfl rfl)
theorem dX0_readsTunes_81 : decode cX0_readsTunes 81 = .ok (.getfield 33, 3) := dk_180 0 33 (dk_at dksX0_readsTunes_3 10 rfl rfl)
theorem dX0_readsTunes_84 : decode cX0_readsTunes 84 = .ok (.iload_n 1, 1) := dk_27 (dk_at dksX0_readsTunes_3 13 rfl rfl)
theorem dX0_readsTunes_85 : decode cX0_readsTunes 85 = .ok (.aaload, 1) := dk_50 (dk_at dksX0_readsTunes_3 14 rfl rfl)
theorem dX0_readsTunes_86 : decode cX0_readsTunes 86 = .ok (.aload_n 0, 1) := dk_42 (dk_at dksX0_readsTunes_3 15 rfl rfl)
theorem dX0_readsTunes_87 : decode cX0_readsTunes 87 = .ok (.iconst 0, 1) := dk_3 (dk_at dksX0_readsTunes_3 16 rfl rfl)
theorem dX0_readsTunes_88 : decode cX0_readsTunes 88 = .ok (.iload_n 2, 1) := dk_28 (dk_at dksX0_readsTunes_3 17 rfl rfl)
theorem dX0_readsTunes_89 : decode cX0_readsTunes 89 = .ok (.invokevirtual 29, 3) := dk_182 0 29 (dk_at dksX0_readsTunes_3 18 rfl rfl)
theorem dX0_readsTunes_92 : decode cX0_readsTunes 92 = .ok (.invokevirtual 42, 3) := dk_182 0 42 (dk_at dksX0_readsTunes_3 21 rfl rfl)
theorem dX0_readsTunes_95 : decode cX0_readsTunes 95 = .ok (.iinc 2 1, 3) := dk_132 2 1 (dk_at dksX0_readsTunes_4 0 rfl rfl)
theorem dX0_readsTunes_98 : decode cX0_readsTunes 98 = .ok (.goto (-42), 3) := dk_167 255 214 (dk_at dksX0_readsTunes_4 3 rfl rfl)
theorem dX0_readsTunes_101 : decode cX0_readsTunes 101 = .ok (.iinc 1 1, 3) := dk_132 1 1 (dk_at dksX0_readsTunes_4 6 rfl rfl)
theorem dX0_readsTunes_104 : decode cX0_readsTunes 104 = .ok (.iload_n 2, 1) := dk_28 (dk_at dksX0_readsTunes_4 9 rfl rfl)
theorem dX0_readsTunes_105 : decode cX0_readsTunes 105 = .ok (.aload_n 0, 1) := dk_42 (dk_at dksX0_readsTunes_4 10 rfl rfl)
theorem dX0_readsTunes_106 : decode cX0_readsTunes 106 = .ok (.getfield 13, 3) := dk_180 0 13 (dk_at dksX0_readsTunes_4 11 rfl rfl)
theorem dX0_readsTunes_109 : decode cX0_readsTunes 109 = .ok (.iconst 0, 1) := dk_3 (dk_at dksX0_readsTunes_4 14 rfl rfl)
theorem dX0_readsTunes_110 : decode cX0_readsTunes 110 = .ok (.iaload, 1) := dk_46 (dk_at dksX0_readsTunes_4 15 rfl rfl)
theorem dX0_readsTunes_111 : decode cX0_readsTunes 111 = .ok (.if_icmp .ge 7, 3) := dk_162 0 7 (dk_at dksX0_readsTunes_4 16 rfl rfl)
theorem dX0_readsTunes_114 : decode cX0_readsTunes 114 = .ok (.iconst 1, 1) := dk_4 (dk_at dksX0_readsTunes_4 19 rfl rfl)
theorem dX0_readsTunes_115 : decode cX0_readsTunes 115 = .ok (.goto 4, 3) := dk_167 0 4 (dk_at dksX0_readsTunes_4 20 rfl rfl)
theorem dX0_readsTunes_118 : decode cX0_readsTunes 118 = .ok (.iconst 0, 1) := dk_3 (dk_at dksX0_readsTunes_4 23 rfl rfl)
theorem dX0_readsTunes_119 : decode cX0_readsTunes 119 = .ok (.istore_n 3, 1) := dk_62 (dk_at dksX0_readsTunes_5 0 rfl rfl)
theorem dX0_readsTunes_120 : decode cX0_readsTunes 120 = .ok (.iload_n 3, 1) := dk_29 (dk_at dksX0_readsTunes_5 1 rfl rfl)
theorem dX0_readsTunes_121 : decode cX0_readsTunes 121 = .ok (.ifCond .eq 18, 3) := dk_153 0 18 (dk_at dksX0_readsTunes_5 2 rfl rfl)
theorem dX0_readsTunes_124 : decode cX0_readsTunes 124 = .ok (.aload_n 0, 1) := dk_42 (dk_at dksX0_readsTunes_5 5 rfl rfl)
theorem dX0_readsTunes_125 : decode cX0_readsTunes 125 = .ok (.getfield 17, 3) := dk_180 0 17 (dk_at dksX0_readsTunes_5 6 rfl rfl)
theorem dX0_readsTunes_128 : decode cX0_readsTunes 128 = .ok (.iconst 0, 1) := dk_3 (dk_at dksX0_readsTunes_5 9 rfl rfl)
theorem dX0_readsTunes_129 : decode cX0_readsTunes 129 = .ok (.aaload, 1) := dk_50 (dk_at dksX0_readsTunes_5 10 rfl rfl)
theorem dX0_readsTunes_130 : decode cX0_readsTunes 130 = .ok (.iload_n 2, 1) := dk_28 (dk_at dksX0_readsTunes_5 11 rfl rfl)
theorem dX0_readsTunes_131 : decode cX0_readsTunes 131 = .ok (.iaload, 1) := dk_46 (dk_at dksX0_readsTunes_5 12 rfl rfl)
theorem dX0_readsTunes_132 : decode cX0_readsTunes 132 = .ok (.bipush 59, 2) := dk_16 59 (dk_at dksX0_readsTunes_5 13 rfl rfl)
theorem dX0_readsTunes_134 : decode cX0_readsTunes 134 = .ok (.if_icmp .eq 5, 3) := dk_159 0 5 (dk_at dksX0_readsTunes_5 15 rfl rfl)
theorem dX0_readsTunes_137 : decode cX0_readsTunes 137 = .ok (.iload_n 2, 1) := dk_28 (dk_at dksX0_readsTunes_5 18 rfl rfl)
theorem dX0_readsTunes_138 : decode cX0_readsTunes 138 = .ok (.ireturn, 1) := dk_172 (dk_at dksX0_readsTunes_5 19 rfl rfl)
theorem dX0_readsTunes_139 : decode cX0_readsTunes 139 = .ok (.iload_n 2, 1) := dk_28 (dk_at dksX0_readsTunes_5 20 rfl rfl)
theorem dX0_readsTunes_140 : decode cX0_readsTunes 140 = .ok (.iload_n 3, 1) := dk_29 (dk_at dksX0_readsTunes_5 21 rfl rfl)
theorem dX0_readsTunes_141 : decode cX0_readsTunes 141 = .ok (.ifCond .eq 7, 3) := dk_153 0 7 (dk_at dksX0_readsTunes_6 0 rfl rfl)
theorem dX0_readsTunes_144 : decode cX0_readsTunes 144 = .ok (.iconst 1, 1) := dk_4 (dk_at dksX0_readsTunes_6 3 rfl rfl)
theorem dX0_readsTunes_145 : decode cX0_readsTunes 145 = .ok (.goto 4, 3) := dk_167 0 4 (dk_at dksX0_readsTunes_6 4 rfl rfl)
theorem dX0_readsTunes_148 : decode cX0_readsTunes 148 = .ok (.iconst 0, 1) := dk_3 (dk_at dksX0_readsTunes_6 7 rfl rfl)
theorem dX0_readsTunes_149 : decode cX0_readsTunes 149 = .ok (.iadd, 1) := dk_96 (dk_at dksX0_readsTunes_6 8 rfl rfl)
theorem dX0_readsTunes_150 : decode cX0_readsTunes 150 = .ok (.istore_n 2, 1) := dk_61 (dk_at dksX0_readsTunes_6 9 rfl rfl)
theorem dX0_readsTunes_151 : decode cX0_readsTunes 151 = .ok (.goto (-127), 3) := dk_167 255 129 (dk_at dksX0_readsTunes_6 10 rfl rfl)
theorem dX0_readsTunes_154 : decode cX0_readsTunes 154 = .ok (.aload_n 0, 1) := dk_42 (dk_at dksX0_readsTunes_6 13 rfl rfl)
theorem dX0_readsTunes_155 : decode cX0_readsTunes 155 = .ok (.iload_n 1, 1) := dk_27 (dk_at dksX0_readsTunes_6 14 rfl rfl)
theorem dX0_readsTunes_156 : decode cX0_readsTunes 156 = .ok (.putfield 25, 3) := dk_181 0 25 (dk_at dksX0_readsTunes_6 15 rfl rfl)
theorem dX0_readsTunes_159 : decode cX0_readsTunes 159 = .ok (.iconst (-1), 1) := dk_2 (dk_at dksX0_readsTunes_6 18 rfl rfl)
theorem dX0_readsTunes_160 : decode cX0_readsTunes 160 = .ok (.ireturn, 1) := dk_172 (dk_at dksX0_readsTunes_6 19 rfl rfl)
def dkwX0_noteAt_1 : List UInt8 := [2, 62, 29, 3, 16, 6, 184, 0, 5, 153, 0, 7, 29, 167, 0, 4, 2, 172]
abbrev dktX0_noteAt_1 : List UInt8 := dkwX0_noteAt_1 ++ []
def dkwX0_noteAt_0 : List UInt8 := [28, 42, 180, 0, 13, 27, 46, 162, 0, 17, 42, 180, 0, 17, 27, 50, 28, 46, 16, 97, 100, 167, 0, 4]
abbrev dktX0_noteAt_0 : List UInt8 := dkwX0_noteAt_0 ++ dktX0_noteAt_1
theorem dksX0_noteAt_0 : cX0_noteAt.data.toList.drop 0 = dktX0_noteAt_0 := by decide +kernel
theorem dksX0_noteAt_1 : cX0_noteAt.data.toList.drop 24 = dktX0_noteAt_1 := dk_seg dksX0_noteAt_0 24 rfl rfl
theorem dX0_noteAt_0 : decode cX0_noteAt 0 = .ok (.iload_n 2, 1) := dk_28 (dk_at dksX0_noteAt_0 0 rfl rfl)
theorem dX0_noteAt_1 : decode cX0_noteAt 1 = .ok (.aload_n 0, 1) := dk_42 (dk_at dksX0_noteAt_0 1 rfl rfl)
theorem dX0_noteAt_2 : decode cX0_noteAt 2 = .ok (.getfield 13, 3) := dk_180 0 13 (dk_at dksX0_noteAt_0 2 rfl rfl)
theorem dX0_noteAt_5 : decode cX0_noteAt 5 = .ok (.iload_n 1, 1) := dk_27 (dk_at dksX0_noteAt_0 5 rfl rfl)
theorem dX0_noteAt_6 : decode cX0_noteAt 6 = .ok (.iaload, 1) := dk_46 (dk_at dksX0_noteAt_0 6 rfl rfl)
theorem dX0_noteAt_7 : decode cX0_noteAt 7 = .ok (.if_icmp .ge 17, 3) := dk_162 0 17 (dk_at dksX0_noteAt_0 7 rfl rfl)
theorem dX0_noteAt_10 : decode cX0_noteAt 10 = .ok (.aload_n 0, 1) := dk_42 (dk_at dksX0_noteAt_0 10 rfl rfl)
theorem dX0_noteAt_11 : decode cX0_noteAt 11 = .ok (.getfield 17, 3) := dk_180 0 17 (dk_at dksX0_noteAt_0 11 rfl rfl)
theorem dX0_noteAt_14 : decode cX0_noteAt 14 = .ok (.iload_n 1, 1) := dk_27 (dk_at dksX0_noteAt_0 14 rfl rfl)
theorem dX0_noteAt_15 : decode cX0_noteAt 15 = .ok (.aaload, 1) := dk_50 (dk_at dksX0_noteAt_0 15 rfl rfl)
theorem dX0_noteAt_16 : decode cX0_noteAt 16 = .ok (.iload_n 2, 1) := dk_28 (dk_at dksX0_noteAt_0 16 rfl rfl)
theorem dX0_noteAt_17 : decode cX0_noteAt 17 = .ok (.iaload, 1) := dk_46 (dk_at dksX0_noteAt_0 17 rfl rfl)
theorem dX0_noteAt_18 : decode cX0_noteAt 18 = .ok (.bipush 97, 2) := dk_16 97 (dk_at dksX0_noteAt_0 18 rfl rfl)
theorem dX0_noteAt_20 : decode cX0_noteAt 20 = .ok (.isub, 1) := dk_100 (dk_at dksX0_noteAt_0 20 rfl rfl)
theorem dX0_noteAt_21 : decode cX0_noteAt 21 = .ok (.goto 4, 3) := dk_167 0 4 (dk_at dksX0_noteAt_0 21 rfl rfl)
theorem dX0_noteAt_24 : decode cX0_noteAt 24 = .ok (.iconst (-1), 1) := dk_2 (dk_at dksX0_noteAt_1 0 rfl rfl)
theorem dX0_noteAt_25 : decode cX0_noteAt 25 = .ok (.istore_n 3, 1) := dk_62 (dk_at dksX0_noteAt_1 1 rfl rfl)
theorem dX0_noteAt_26 : decode cX0_noteAt 26 = .ok (.iload_n 3, 1) := dk_29 (dk_at dksX0_noteAt_1 2 rfl rfl)
theorem dX0_noteAt_27 : decode cX0_noteAt 27 = .ok (.iconst 0, 1) := dk_3 (dk_at dksX0_noteAt_1 3 rfl rfl)
theorem dX0_noteAt_28 : decode cX0_noteAt 28 = .ok (.bipush 6, 2) := dk_16 6 (dk_at dksX0_noteAt_1 4 rfl rfl)
theorem dX0_noteAt_30 : decode cX0_noteAt 30 = .ok (.invokestatic 5, 3) := dk_184 0 5 (dk_at dksX0_noteAt_1 6 rfl rfl)
theorem dX0_noteAt_33 : decode cX0_noteAt 33 = .ok (.ifCond .eq 7, 3) := dk_153 0 7 (dk_at dksX0_noteAt_1 9 rfl rfl)
theorem dX0_noteAt_36 : decode cX0_noteAt 36 = .ok (.iload_n 3, 1) := dk_29 (dk_at dksX0_noteAt_1 12 rfl rfl)
theorem dX0_noteAt_37 : decode cX0_noteAt 37 = .ok (.goto 4, 3) := dk_167 0 4 (dk_at dksX0_noteAt_1 13 rfl rfl)
theorem dX0_noteAt_40 : decode cX0_noteAt 40 = .ok (.iconst (-1), 1) := dk_2 (dk_at dksX0_noteAt_1 16 rfl rfl)
theorem dX0_noteAt_41 : decode cX0_noteAt 41 = .ok (.ireturn, 1) := dk_172 (dk_at dksX0_noteAt_1 17 rfl rfl)
def dkwX0_readsBorrowers_10 : List UInt8 := [172, 28, 29, 153, 0, 7, 4, 167, 0, 4, 3, 96, 61, 167, 255, 28, 42, 27, 181, 0, 46, 2, 172]
abbrev dktX0_readsBorrowers_10 : List UInt8 := dkwX0_readsBorrowers_10 ++ []
def dkwX0_readsBorrowers_9 : List UInt8 := [4, 167, 0, 4, 3, 62, 29, 153, 0, 18, 42, 180, 0, 17, 4, 50, 28, 46, 16, 59, 159, 0, 5, 28]
abbrev dktX0_readsBorrowers_9 : List UInt8 := dkwX0_readsBorrowers_9 ++ dktX0_readsBorrowers_10
def dkwX0_readsBorrowers_8 : List UInt8 := [5, 96, 182, 0, 29, 181, 0, 62, 132, 1, 1, 132, 2, 3, 28, 42, 180, 0, 13, 4, 46, 162, 0, 7]
abbrev dktX0_readsBorrowers_8 : List UInt8 := dkwX0_readsBorrowers_8 ++ dktX0_readsBorrowers_9
def dkwX0_readsBorrowers_7 : List UInt8 := [42, 180, 0, 49, 27, 50, 42, 4, 28, 182, 0, 29, 181, 0, 57, 42, 180, 0, 49, 27, 50, 42, 4, 28]
abbrev dktX0_readsBorrowers_7 : List UInt8 := dkwX0_readsBorrowers_7 ++ dktX0_readsBorrowers_8
def dkwX0_readsBorrowers_6 : List UInt8 := [6, 162, 0, 8, 28, 21, 6, 96, 172, 42, 180, 0, 49, 27, 42, 180, 0, 53, 21, 5, 50, 27, 50, 83]
abbrev dktX0_readsBorrowers_6 : List UInt8 := dkwX0_readsBorrowers_6 ++ dktX0_readsBorrowers_7
def dkwX0_readsBorrowers_5 : List UInt8 := [167, 0, 20, 42, 4, 28, 5, 96, 182, 0, 29, 2, 160, 0, 7, 5, 167, 0, 4, 6, 54, 6, 21, 6]
abbrev dktX0_readsBorrowers_5 : List UInt8 := dkwX0_readsBorrowers_5 ++ dktX0_readsBorrowers_6
def dkwX0_readsBorrowers_4 : List UInt8 := [159, 0, 13, 42, 4, 28, 182, 0, 29, 2, 160, 0, 7, 3, 167, 0, 30, 21, 5, 2, 160, 0, 7, 4]
abbrev dktX0_readsBorrowers_4 : List UInt8 := dkwX0_readsBorrowers_4 ++ dktX0_readsBorrowers_5
def dkwX0_readsBorrowers_3 : List UInt8 := [160, 0, 7, 4, 167, 0, 15, 21, 4, 16, 47, 160, 0, 7, 5, 167, 0, 4, 2, 54, 5, 27, 16, 6]
abbrev dktX0_readsBorrowers_3 : List UInt8 := dkwX0_readsBorrowers_3 ++ dktX0_readsBorrowers_4
def dkwX0_readsBorrowers_2 : List UInt8 := [96, 46, 167, 0, 4, 2, 54, 4, 21, 4, 16, 43, 160, 0, 7, 3, 167, 0, 26, 21, 4, 16, 45]
abbrev dktX0_readsBorrowers_2 : List UInt8 := dkwX0_readsBorrowers_2 ++ dktX0_readsBorrowers_3
def dkwX0_readsBorrowers_1 : List UInt8 := [29, 153, 0, 230, 28, 4, 96, 42, 180, 0, 13, 4, 46, 162, 0, 16, 42, 180, 0, 17, 4, 50, 28, 4]
abbrev dktX0_readsBorrowers_1 : List UInt8 := dkwX0_readsBorrowers_1 ++ dktX0_readsBorrowers_2
def dkwX0_readsBorrowers_0 : List UInt8 := [3, 60, 3, 61, 42, 180, 0, 13, 4, 46, 158, 0, 7, 4, 167, 0, 4, 3, 62, 42, 3, 181, 0, 46]
abbrev dktX0_readsBorrowers_0 : List UInt8 := dkwX0_readsBorrowers_0 ++ dktX0_readsBorrowers_1
theorem dksX0_readsBorrowers_0 : cX0_readsBorrowers.data.toList.drop 0 = dktX0_readsBorrowers_0 := by decide +kernel
theorem dksX0_readsBorrowers_1 : cX0_readsBorrowers.data.toList.drop 24 = dktX0_readsBorrowers_1 := dk_seg dksX0_readsBorrowers_0 24 rfl rfl
theorem dksX0_readsBorrowers_2 : cX0_readsBorrowers.data.toList.drop 48 = dktX0_readsBorrowers_2 := dk_seg dksX0_readsBorrowers_1 24 rfl rfl
theorem dksX0_readsBorrowers_3 : cX0_readsBorrowers.data.toList.drop 71 = dktX0_readsBorrowers_3 := dk_seg dksX0_readsBorrowers_2 23 rfl rfl
theorem dksX0_readsBorrowers_4 : cX0_readsBorrowers.data.toList.drop 95 = dktX0_readsBorrowers_4 := dk_seg dksX0_readsBorrowers_3 24 rfl rfl
theorem dksX0_readsBorrowers_5 : cX0_readsBorrowers.data.toList.drop 119 = dktX0_readsBorrowers_5 := dk_seg dksX0_readsBorrowers_4 24 rfl rfl
theorem dksX0_readsBorrowers_6 : cX0_readsBorrowers.data.toList.drop 143 = dktX0_readsBorrowers_6 := dk_seg dksX0_readsBorrowers_5 24 rfl rfl
theorem dksX0_readsBorrowers_7 : cX0_readsBorrowers.data.toList.drop 167 = dktX0_readsBorrowers_7 := dk_seg dksX0_readsBorrowers_6 24 rfl rfl
theorem dksX0_readsBorrowers_8 : cX0_readsBorrowers.data.toList.drop 191 = dktX0_readsBorrowers_8 := dk_seg dksX0_readsBorrowers_7 24 rfl rfl
theorem dksX0_readsBorrowers_9 : cX0_readsBorrowers.data.toList.drop 215 = dktX0_readsBorrowers_9 := dk_seg dksX0_readsBorrowers_8 24 rfl rfl
theorem dksX0_readsBorrowers_10 : cX0_readsBorrowers.data.toList.drop 239 = dktX0_readsBorrowers_10 := dk_seg dksX0_readsBorrowers_9 24 rfl rfl
theorem dX0_readsBorrowers_0 : decode cX0_readsBorrowers 0 = .ok (.iconst 0, 1) := dk_3 (dk_at dksX0_readsBorrowers_0 0 rfl rfl)
theorem dX0_readsBorrowers_1 : decode cX0_readsBorrowers 1 = .ok (.istore_n 1, 1) := dk_60 (dk_at dksX0_readsBorrowers_0 1 rfl rfl)
theorem dX0_readsBorrowers_2 : decode cX0_readsBorrowers 2 = .ok (.iconst 0, 1) := dk_3 (dk_at dksX0_readsBorrowers_0 2 rfl rfl)
theorem dX0_readsBorrowers_3 : decode cX0_readsBorrowers 3 = .ok (.istore_n 2, 1) := dk_61 (dk_at dksX0_readsBorrowers_0 3 rfl rfl)
theorem dX0_readsBorrowers_4 : decode cX0_readsBorrowers 4 = .ok (.aload_n 0, 1) := dk_42 (dk_at dksX0_readsBorrowers_0 4 rfl rfl)
theorem dX0_readsBorrowers_5 : decode cX0_readsBorrowers 5 = .ok (.getfield 13, 3) := dk_180 0 13 (dk_at dksX0_readsBorrowers_0 5 rfl rfl)
theorem dX0_readsBorrowers_8 : decode cX0_readsBorrowers 8 = .ok (.iconst 1, 1) := dk_4 (dk_at dksX0_readsBorrowers_0 8 rfl rfl)
theorem dX0_readsBorrowers_9 : decode cX0_readsBorrowers 9 = .ok (.iaload, 1) := dk_46 (dk_at dksX0_readsBorrowers_0 9 rfl rfl)
theorem dX0_readsBorrowers_10 : decode cX0_readsBorrowers 10 = .ok (.ifCond .le 7, 3) := dk_158 0 7 (dk_at dksX0_readsBorrowers_0 10 rfl rfl)
theorem dX0_readsBorrowers_13 : decode cX0_readsBorrowers 13 = .ok (.iconst 1, 1) := dk_4 (dk_at dksX0_readsBorrowers_0 13 rfl rfl)
theorem dX0_readsBorrowers_14 : decode cX0_readsBorrowers 14 = .ok (.goto 4, 3) := dk_167 0 4 (dk_at dksX0_readsBorrowers_0 14 rfl rfl)
theorem dX0_readsBorrowers_17 : decode cX0_readsBorrowers 17 = .ok (.iconst 0, 1) := dk_3 (dk_at dksX0_readsBorrowers_0 17 rfl rfl)
theorem dX0_readsBorrowers_18 : decode cX0_readsBorrowers 18 = .ok (.istore_n 3, 1) := dk_62 (dk_at dksX0_readsBorrowers_0 18 rfl rfl)
theorem dX0_readsBorrowers_19 : decode cX0_readsBorrowers 19 = .ok (.aload_n 0, 1) := dk_42 (dk_at dksX0_readsBorrowers_0 19 rfl rfl)
theorem dX0_readsBorrowers_20 : decode cX0_readsBorrowers 20 = .ok (.iconst 0, 1) := dk_3 (dk_at dksX0_readsBorrowers_0 20 rfl rfl)
theorem dX0_readsBorrowers_21 : decode cX0_readsBorrowers 21 = .ok (.putfield 46, 3) := dk_181 0 46 (dk_at dksX0_readsBorrowers_0 21 rfl rfl)
theorem dX0_readsBorrowers_24 : decode cX0_readsBorrowers 24 = .ok (.iload_n 3, 1) := dk_29 (dk_at dksX0_readsBorrowers_1 0 rfl rfl)
theorem dX0_readsBorrowers_25 : decode cX0_readsBorrowers 25 = .ok (.ifCond .eq 230, 3) := dk_153 0 230 (dk_at dksX0_readsBorrowers_1 1 rfl rfl)
theorem dX0_readsBorrowers_28 : decode cX0_readsBorrowers 28 = .ok (.iload_n 2, 1) := dk_28 (dk_at dksX0_readsBorrowers_1 4 rfl rfl)
theorem dX0_readsBorrowers_29 : decode cX0_readsBorrowers 29 = .ok (.iconst 1, 1) := dk_4 (dk_at dksX0_readsBorrowers_1 5 rfl rfl)
theorem dX0_readsBorrowers_30 : decode cX0_readsBorrowers 30 = .ok (.iadd, 1) := dk_96 (dk_at dksX0_readsBorrowers_1 6 rfl rfl)
theorem dX0_readsBorrowers_31 : decode cX0_readsBorrowers 31 = .ok (.aload_n 0, 1) := dk_42 (dk_at dksX0_readsBorrowers_1 7 rfl rfl)
theorem dX0_readsBorrowers_32 : decode cX0_readsBorrowers 32 = .ok (.getfield 13, 3) := dk_180 0 13 (dk_at dksX0_readsBorrowers_1 8 rfl rfl)
theorem dX0_readsBorrowers_35 : decode cX0_readsBorrowers 35 = .ok (.iconst 1, 1) := dk_4 (dk_at dksX0_readsBorrowers_1 11 rfl rfl)
theorem dX0_readsBorrowers_36 : decode cX0_readsBorrowers 36 = .ok (.iaload, 1) := dk_46 (dk_at dksX0_readsBorrowers_1 12 rfl rfl)
theorem dX0_readsBorrowers_37 : decode cX0_readsBorrowers 37 = .ok (.if_icmp .ge 16, 3) := dk_162 0 16 (dk_at dksX0_readsBorrowers_1 13 rfl rfl)
theorem dX0_readsBorrowers_40 : decode cX0_readsBorrowers 40 = .ok (.aload_n 0, 1) := dk_42 (dk_at dksX0_readsBorrowers_1 16 rfl rfl)
theorem dX0_readsBorrowers_41 : decode cX0_readsBorrowers 41 = .ok (.getfield 17, 3) := dk_180 0 17 (dk_at dksX0_readsBorrowers_1 17 rfl rfl)
theorem dX0_readsBorrowers_44 : decode cX0_readsBorrowers 44 = .ok (.iconst 1, 1) := dk_4 (dk_at dksX0_readsBorrowers_1 20 rfl rfl)
theorem dX0_readsBorrowers_45 : decode cX0_readsBorrowers 45 = .ok (.aaload, 1) := dk_50 (dk_at dksX0_readsBorrowers_1 21 rfl rfl)
theorem dX0_readsBorrowers_46 : decode cX0_readsBorrowers 46 = .ok (.iload_n 2, 1) := dk_28 (dk_at dksX0_readsBorrowers_1 22 rfl rfl)
theorem dX0_readsBorrowers_47 : decode cX0_readsBorrowers 47 = .ok (.iconst 1, 1) := dk_4 (dk_at dksX0_readsBorrowers_1 23 rfl rfl)
theorem dX0_readsBorrowers_48 : decode cX0_readsBorrowers 48 = .ok (.iadd, 1) := dk_96 (dk_at dksX0_readsBorrowers_2 0 rfl rfl)
theorem dX0_readsBorrowers_49 : decode cX0_readsBorrowers 49 = .ok (.iaload, 1) := dk_46 (dk_at dksX0_readsBorrowers_2 1 rfl rfl)
theorem dX0_readsBorrowers_50 : decode cX0_readsBorrowers 50 = .ok (.goto 4, 3) := dk_167 0 4 (dk_at dksX0_readsBorrowers_2 2 rfl rfl)
theorem dX0_readsBorrowers_53 : decode cX0_readsBorrowers 53 = .ok (.iconst (-1), 1) := dk_2 (dk_at dksX0_readsBorrowers_2 5 rfl rfl)
theorem dX0_readsBorrowers_54 : decode cX0_readsBorrowers 54 = .ok (.istore 4, 2) := dk_54 4 (dk_at dksX0_readsBorrowers_2 6 rfl rfl)
theorem dX0_readsBorrowers_56 : decode cX0_readsBorrowers 56 = .ok (.iload 4, 2) := dk_21 4 (dk_at dksX0_readsBorrowers_2 8 rfl rfl)
theorem dX0_readsBorrowers_58 : decode cX0_readsBorrowers 58 = .ok (.bipush 43, 2) := dk_16 43 (dk_at dksX0_readsBorrowers_2 10 rfl rfl)
theorem dX0_readsBorrowers_60 : decode cX0_readsBorrowers 60 = .ok (.if_icmp .ne 7, 3) := dk_160 0 7 (dk_at dksX0_readsBorrowers_2 12 rfl rfl)
theorem dX0_readsBorrowers_63 : decode cX0_readsBorrowers 63 = .ok (.iconst 0, 1) := dk_3 (dk_at dksX0_readsBorrowers_2 15 rfl rfl)
theorem dX0_readsBorrowers_64 : decode cX0_readsBorrowers 64 = .ok (.goto 26, 3) := dk_167 0 26 (dk_at dksX0_readsBorrowers_2 16 rfl rfl)
theorem dX0_readsBorrowers_67 : decode cX0_readsBorrowers 67 = .ok (.iload 4, 2) := dk_21 4 (dk_at dksX0_readsBorrowers_2 19 rfl rfl)
theorem dX0_readsBorrowers_69 : decode cX0_readsBorrowers 69 = .ok (.bipush 45, 2) := dk_16 45 (dk_at dksX0_readsBorrowers_2 21 rfl rfl)
theorem dX0_readsBorrowers_71 : decode cX0_readsBorrowers 71 = .ok (.if_icmp .ne 7, 3) := dk_160 0 7 (dk_at dksX0_readsBorrowers_3 0 rfl rfl)
theorem dX0_readsBorrowers_74 : decode cX0_readsBorrowers 74 = .ok (.iconst 1, 1) := dk_4 (dk_at dksX0_readsBorrowers_3 3 rfl rfl)
theorem dX0_readsBorrowers_75 : decode cX0_readsBorrowers 75 = .ok (.goto 15, 3) := dk_167 0 15 (dk_at dksX0_readsBorrowers_3 4 rfl rfl)
theorem dX0_readsBorrowers_78 : decode cX0_readsBorrowers 78 = .ok (.iload 4, 2) := dk_21 4 (dk_at dksX0_readsBorrowers_3 7 rfl rfl)
theorem dX0_readsBorrowers_80 : decode cX0_readsBorrowers 80 = .ok (.bipush 47, 2) := dk_16 47 (dk_at dksX0_readsBorrowers_3 9 rfl rfl)
theorem dX0_readsBorrowers_82 : decode cX0_readsBorrowers 82 = .ok (.if_icmp .ne 7, 3) := dk_160 0 7 (dk_at dksX0_readsBorrowers_3 11 rfl rfl)
theorem dX0_readsBorrowers_85 : decode cX0_readsBorrowers 85 = .ok (.iconst 2, 1) := dk_5 (dk_at dksX0_readsBorrowers_3 14 rfl rfl)
theorem dX0_readsBorrowers_86 : decode cX0_readsBorrowers 86 = .ok (.goto 4, 3) := dk_167 0 4 (dk_at dksX0_readsBorrowers_3 15 rfl rfl)
theorem dX0_readsBorrowers_89 : decode cX0_readsBorrowers 89 = .ok (.iconst (-1), 1) := dk_2 (dk_at dksX0_readsBorrowers_3 18 rfl rfl)
theorem dX0_readsBorrowers_90 : decode cX0_readsBorrowers 90 = .ok (.istore 5, 2) := dk_54 5 (dk_at dksX0_readsBorrowers_3 19 rfl rfl)
theorem dX0_readsBorrowers_92 : decode cX0_readsBorrowers 92 = .ok (.iload_n 1, 1) := dk_27 (dk_at dksX0_readsBorrowers_3 21 rfl rfl)
theorem dX0_readsBorrowers_93 : decode cX0_readsBorrowers 93 = .ok (.bipush 6, 2) := dk_16 6 (dk_at dksX0_readsBorrowers_3 22 rfl rfl)
theorem dX0_readsBorrowers_95 : decode cX0_readsBorrowers 95 = .ok (.if_icmp .eq 13, 3) := dk_159 0 13 (dk_at dksX0_readsBorrowers_4 0 rfl rfl)
theorem dX0_readsBorrowers_98 : decode cX0_readsBorrowers 98 = .ok (.aload_n 0, 1) := dk_42 (dk_at dksX0_readsBorrowers_4 3 rfl rfl)
theorem dX0_readsBorrowers_99 : decode cX0_readsBorrowers 99 = .ok (.iconst 1, 1) := dk_4 (dk_at dksX0_readsBorrowers_4 4 rfl rfl)
theorem dX0_readsBorrowers_100 : decode cX0_readsBorrowers 100 = .ok (.iload_n 2, 1) := dk_28 (dk_at dksX0_readsBorrowers_4 5 rfl rfl)
theorem dX0_readsBorrowers_101 : decode cX0_readsBorrowers 101 = .ok (.invokevirtual 29, 3) := dk_182 0 29 (dk_at dksX0_readsBorrowers_4 6 rfl rfl)
theorem dX0_readsBorrowers_104 : decode cX0_readsBorrowers 104 = .ok (.iconst (-1), 1) := dk_2 (dk_at dksX0_readsBorrowers_4 9 rfl rfl)
theorem dX0_readsBorrowers_105 : decode cX0_readsBorrowers 105 = .ok (.if_icmp .ne 7, 3) := dk_160 0 7 (dk_at dksX0_readsBorrowers_4 10 rfl rfl)
theorem dX0_readsBorrowers_108 : decode cX0_readsBorrowers 108 = .ok (.iconst 0, 1) := dk_3 (dk_at dksX0_readsBorrowers_4 13 rfl rfl)
theorem dX0_readsBorrowers_109 : decode cX0_readsBorrowers 109 = .ok (.goto 30, 3) := dk_167 0 30 (dk_at dksX0_readsBorrowers_4 14 rfl rfl)
theorem dX0_readsBorrowers_112 : decode cX0_readsBorrowers 112 = .ok (.iload 5, 2) := dk_21 5 (dk_at dksX0_readsBorrowers_4 17 rfl rfl)
theorem dX0_readsBorrowers_114 : decode cX0_readsBorrowers 114 = .ok (.iconst (-1), 1) := dk_2 (dk_at dksX0_readsBorrowers_4 19 rfl rfl)
theorem dX0_readsBorrowers_115 : decode cX0_readsBorrowers 115 = .ok (.if_icmp .ne 7, 3) := dk_160 0 7 (dk_at dksX0_readsBorrowers_4 20 rfl rfl)
theorem dX0_readsBorrowers_118 : decode cX0_readsBorrowers 118 = .ok (.iconst 1, 1) := dk_4 (dk_at dksX0_readsBorrowers_4 23 rfl rfl)
theorem dX0_readsBorrowers_119 : decode cX0_readsBorrowers 119 = .ok (.goto 20, 3) := dk_167 0 20 (dk_at dksX0_readsBorrowers_5 0 rfl rfl)
theorem dX0_readsBorrowers_122 : decode cX0_readsBorrowers 122 = .ok (.aload_n 0, 1) := dk_42 (dk_at dksX0_readsBorrowers_5 3 rfl rfl)
theorem dX0_readsBorrowers_123 : decode cX0_readsBorrowers 123 = .ok (.iconst 1, 1) := dk_4 (dk_at dksX0_readsBorrowers_5 4 rfl rfl)
theorem dX0_readsBorrowers_124 : decode cX0_readsBorrowers 124 = .ok (.iload_n 2, 1) := dk_28 (dk_at dksX0_readsBorrowers_5 5 rfl rfl)
theorem dX0_readsBorrowers_125 : decode cX0_readsBorrowers 125 = .ok (.iconst 2, 1) := dk_5 (dk_at dksX0_readsBorrowers_5 6 rfl rfl)
theorem dX0_readsBorrowers_126 : decode cX0_readsBorrowers 126 = .ok (.iadd, 1) := dk_96 (dk_at dksX0_readsBorrowers_5 7 rfl rfl)
theorem dX0_readsBorrowers_127 : decode cX0_readsBorrowers 127 = .ok (.invokevirtual 29, 3) := dk_182 0 29 (dk_at dksX0_readsBorrowers_5 8 rfl rfl)
theorem dX0_readsBorrowers_130 : decode cX0_readsBorrowers 130 = .ok (.iconst (-1), 1) := dk_2 (dk_at dksX0_readsBorrowers_5 11 rfl rfl)
theorem dX0_readsBorrowers_131 : decode cX0_readsBorrowers 131 = .ok (.if_icmp .ne 7, 3) := dk_160 0 7 (dk_at dksX0_readsBorrowers_5 12 rfl rfl)
theorem dX0_readsBorrowers_134 : decode cX0_readsBorrowers 134 = .ok (.iconst 2, 1) := dk_5 (dk_at dksX0_readsBorrowers_5 15 rfl rfl)
theorem dX0_readsBorrowers_135 : decode cX0_readsBorrowers 135 = .ok (.goto 4, 3) := dk_167 0 4 (dk_at dksX0_readsBorrowers_5 16 rfl rfl)
theorem dX0_readsBorrowers_138 : decode cX0_readsBorrowers 138 = .ok (.iconst 3, 1) := dk_6 (dk_at dksX0_readsBorrowers_5 19 rfl rfl)
theorem dX0_readsBorrowers_139 : decode cX0_readsBorrowers 139 = .ok (.istore 6, 2) := dk_54 6 (dk_at dksX0_readsBorrowers_5 20 rfl rfl)
theorem dX0_readsBorrowers_141 : decode cX0_readsBorrowers 141 = .ok (.iload 6, 2) := dk_21 6 (dk_at dksX0_readsBorrowers_5 22 rfl rfl)
theorem dX0_readsBorrowers_143 : decode cX0_readsBorrowers 143 = .ok (.iconst 3, 1) := dk_6 (dk_at dksX0_readsBorrowers_6 0 rfl rfl)
theorem dX0_readsBorrowers_144 : decode cX0_readsBorrowers 144 = .ok (.if_icmp .ge 8, 3) := dk_162 0 8 (dk_at dksX0_readsBorrowers_6 1 rfl rfl)
theorem dX0_readsBorrowers_147 : decode cX0_readsBorrowers 147 = .ok (.iload_n 2, 1) := dk_28 (dk_at dksX0_readsBorrowers_6 4 rfl rfl)
theorem dX0_readsBorrowers_148 : decode cX0_readsBorrowers 148 = .ok (.iload 6, 2) := dk_21 6 (dk_at dksX0_readsBorrowers_6 5 rfl rfl)
theorem dX0_readsBorrowers_150 : decode cX0_readsBorrowers 150 = .ok (.iadd, 1) := dk_96 (dk_at dksX0_readsBorrowers_6 7 rfl rfl)
theorem dX0_readsBorrowers_151 : decode cX0_readsBorrowers 151 = .ok (.ireturn, 1) := dk_172 (dk_at dksX0_readsBorrowers_6 8 rfl rfl)
theorem dX0_readsBorrowers_152 : decode cX0_readsBorrowers 152 = .ok (.aload_n 0, 1) := dk_42 (dk_at dksX0_readsBorrowers_6 9 rfl rfl)
theorem dX0_readsBorrowers_153 : decode cX0_readsBorrowers 153 = .ok (.getfield 49, 3) := dk_180 0 49 (dk_at dksX0_readsBorrowers_6 10 rfl rfl)
theorem dX0_readsBorrowers_156 : decode cX0_readsBorrowers 156 = .ok (.iload_n 1, 1) := dk_27 (dk_at dksX0_readsBorrowers_6 13 rfl rfl)
theorem dX0_readsBorrowers_157 : decode cX0_readsBorrowers 157 = .ok (.aload_n 0, 1) := dk_42 (dk_at dksX0_readsBorrowers_6 14 rfl rfl)
theorem dX0_readsBorrowers_158 : decode cX0_readsBorrowers 158 = .ok (.getfield 53, 3) := dk_180 0 53 (dk_at dksX0_readsBorrowers_6 15 rfl rfl)
theorem dX0_readsBorrowers_161 : decode cX0_readsBorrowers 161 = .ok (.iload 5, 2) := dk_21 5 (dk_at dksX0_readsBorrowers_6 18 rfl rfl)
theorem dX0_readsBorrowers_163 : decode cX0_readsBorrowers 163 = .ok (.aaload, 1) := dk_50 (dk_at dksX0_readsBorrowers_6 20 rfl rfl)
theorem dX0_readsBorrowers_164 : decode cX0_readsBorrowers 164 = .ok (.iload_n 1, 1) := dk_27 (dk_at dksX0_readsBorrowers_6 21 rfl rfl)
theorem dX0_readsBorrowers_165 : decode cX0_readsBorrowers 165 = .ok (.aaload, 1) := dk_50 (dk_at dksX0_readsBorrowers_6 22 rfl rfl)
theorem dX0_readsBorrowers_166 : decode cX0_readsBorrowers 166 = .ok (.aastore, 1) := dk_83 (dk_at dksX0_readsBorrowers_6 23 rfl rfl)
theorem dX0_readsBorrowers_167 : decode cX0_readsBorrowers 167 = .ok (.aload_n 0, 1) := dk_42 (dk_at dksX0_readsBorrowers_7 0 rfl rfl)
theorem dX0_readsBorrowers_168 : decode cX0_readsBorrowers 168 = .ok (.getfield 49, 3) := dk_180 0 49 (dk_at dksX0_readsBorrowers_7 1 rfl rfl)
theorem dX0_readsBorrowers_171 : decode cX0_readsBorrowers 171 = .ok (.iload_n 1, 1) := dk_27 (dk_at dksX0_readsBorrowers_7 4 rfl rfl)
theorem dX0_readsBorrowers_172 : decode cX0_readsBorrowers 172 = .ok (.aaload, 1) := dk_50 (dk_at dksX0_readsBorrowers_7 5 rfl rfl)
theorem dX0_readsBorrowers_173 : decode cX0_readsBorrowers 173 = .ok (.aload_n 0, 1) := dk_42 (dk_at dksX0_readsBorrowers_7 6 rfl rfl)
theorem dX0_readsBorrowers_174 : decode cX0_readsBorrowers 174 = .ok (.iconst 1, 1) := dk_4 (dk_at dksX0_readsBorrowers_7 7 rfl rfl)
theorem dX0_readsBorrowers_175 : decode cX0_readsBorrowers 175 = .ok (.iload_n 2, 1) := dk_28 (dk_at dksX0_readsBorrowers_7 8 rfl rfl)
theorem dX0_readsBorrowers_176 : decode cX0_readsBorrowers 176 = .ok (.invokevirtual 29, 3) := dk_182 0 29 (dk_at dksX0_readsBorrowers_7 9 rfl rfl)
theorem dX0_readsBorrowers_179 : decode cX0_readsBorrowers 179 = .ok (.putfield 57, 3) := dk_181 0 57 (dk_at dksX0_readsBorrowers_7 12 rfl rfl)
theorem dX0_readsBorrowers_182 : decode cX0_readsBorrowers 182 = .ok (.aload_n 0, 1) := dk_42 (dk_at dksX0_readsBorrowers_7 15 rfl rfl)
theorem dX0_readsBorrowers_183 : decode cX0_readsBorrowers 183 = .ok (.getfield 49, 3) := dk_180 0 49 (dk_at dksX0_readsBorrowers_7 16 rfl rfl)
theorem dX0_readsBorrowers_186 : decode cX0_readsBorrowers 186 = .ok (.iload_n 1, 1) := dk_27 (dk_at dksX0_readsBorrowers_7 19 rfl rfl)
theorem dX0_readsBorrowers_187 : decode cX0_readsBorrowers 187 = .ok (.aaload, 1) := dk_50 (dk_at dksX0_readsBorrowers_7 20 rfl rfl)
theorem dX0_readsBorrowers_188 : decode cX0_readsBorrowers 188 = .ok (.aload_n 0, 1) := dk_42 (dk_at dksX0_readsBorrowers_7 21 rfl rfl)
theorem dX0_readsBorrowers_189 : decode cX0_readsBorrowers 189 = .ok (.iconst 1, 1) := dk_4 (dk_at dksX0_readsBorrowers_7 22 rfl rfl)
theorem dX0_readsBorrowers_190 : decode cX0_readsBorrowers 190 = .ok (.iload_n 2, 1) := dk_28 (dk_at dksX0_readsBorrowers_7 23 rfl rfl)
theorem dX0_readsBorrowers_191 : decode cX0_readsBorrowers 191 = .ok (.iconst 2, 1) := dk_5 (dk_at dksX0_readsBorrowers_8 0 rfl rfl)
theorem dX0_readsBorrowers_192 : decode cX0_readsBorrowers 192 = .ok (.iadd, 1) := dk_96 (dk_at dksX0_readsBorrowers_8 1 rfl rfl)
theorem dX0_readsBorrowers_193 : decode cX0_readsBorrowers 193 = .ok (.invokevirtual 29, 3) := dk_182 0 29 (dk_at dksX0_readsBorrowers_8 2 rfl rfl)
theorem dX0_readsBorrowers_196 : decode cX0_readsBorrowers 196 = .ok (.putfield 62, 3) := dk_181 0 62 (dk_at dksX0_readsBorrowers_8 5 rfl rfl)
theorem dX0_readsBorrowers_199 : decode cX0_readsBorrowers 199 = .ok (.iinc 1 1, 3) := dk_132 1 1 (dk_at dksX0_readsBorrowers_8 8 rfl rfl)
theorem dX0_readsBorrowers_202 : decode cX0_readsBorrowers 202 = .ok (.iinc 2 3, 3) := dk_132 2 3 (dk_at dksX0_readsBorrowers_8 11 rfl rfl)
theorem dX0_readsBorrowers_205 : decode cX0_readsBorrowers 205 = .ok (.iload_n 2, 1) := dk_28 (dk_at dksX0_readsBorrowers_8 14 rfl rfl)
theorem dX0_readsBorrowers_206 : decode cX0_readsBorrowers 206 = .ok (.aload_n 0, 1) := dk_42 (dk_at dksX0_readsBorrowers_8 15 rfl rfl)
theorem dX0_readsBorrowers_207 : decode cX0_readsBorrowers 207 = .ok (.getfield 13, 3) := dk_180 0 13 (dk_at dksX0_readsBorrowers_8 16 rfl rfl)
theorem dX0_readsBorrowers_210 : decode cX0_readsBorrowers 210 = .ok (.iconst 1, 1) := dk_4 (dk_at dksX0_readsBorrowers_8 19 rfl rfl)
theorem dX0_readsBorrowers_211 : decode cX0_readsBorrowers 211 = .ok (.iaload, 1) := dk_46 (dk_at dksX0_readsBorrowers_8 20 rfl rfl)
theorem dX0_readsBorrowers_212 : decode cX0_readsBorrowers 212 = .ok (.if_icmp .ge 7, 3) := dk_162 0 7 (dk_at dksX0_readsBorrowers_8 21 rfl rfl)
theorem dX0_readsBorrowers_215 : decode cX0_readsBorrowers 215 = .ok (.iconst 1, 1) := dk_4 (dk_at dksX0_readsBorrowers_9 0 rfl rfl)
theorem dX0_readsBorrowers_216 : decode cX0_readsBorrowers 216 = .ok (.goto 4, 3) := dk_167 0 4 (dk_at dksX0_readsBorrowers_9 1 rfl rfl)
theorem dX0_readsBorrowers_219 : decode cX0_readsBorrowers 219 = .ok (.iconst 0, 1) := dk_3 (dk_at dksX0_readsBorrowers_9 4 rfl rfl)
theorem dX0_readsBorrowers_220 : decode cX0_readsBorrowers 220 = .ok (.istore_n 3, 1) := dk_62 (dk_at dksX0_readsBorrowers_9 5 rfl rfl)
theorem dX0_readsBorrowers_221 : decode cX0_readsBorrowers 221 = .ok (.iload_n 3, 1) := dk_29 (dk_at dksX0_readsBorrowers_9 6 rfl rfl)
theorem dX0_readsBorrowers_222 : decode cX0_readsBorrowers 222 = .ok (.ifCond .eq 18, 3) := dk_153 0 18 (dk_at dksX0_readsBorrowers_9 7 rfl rfl)
theorem dX0_readsBorrowers_225 : decode cX0_readsBorrowers 225 = .ok (.aload_n 0, 1) := dk_42 (dk_at dksX0_readsBorrowers_9 10 rfl rfl)
theorem dX0_readsBorrowers_226 : decode cX0_readsBorrowers 226 = .ok (.getfield 17, 3) := dk_180 0 17 (dk_at dksX0_readsBorrowers_9 11 rfl rfl)
theorem dX0_readsBorrowers_229 : decode cX0_readsBorrowers 229 = .ok (.iconst 1, 1) := dk_4 (dk_at dksX0_readsBorrowers_9 14 rfl rfl)
theorem dX0_readsBorrowers_230 : decode cX0_readsBorrowers 230 = .ok (.aaload, 1) := dk_50 (dk_at dksX0_readsBorrowers_9 15 rfl rfl)
theorem dX0_readsBorrowers_231 : decode cX0_readsBorrowers 231 = .ok (.iload_n 2, 1) := dk_28 (dk_at dksX0_readsBorrowers_9 16 rfl rfl)
theorem dX0_readsBorrowers_232 : decode cX0_readsBorrowers 232 = .ok (.iaload, 1) := dk_46 (dk_at dksX0_readsBorrowers_9 17 rfl rfl)
theorem dX0_readsBorrowers_233 : decode cX0_readsBorrowers 233 = .ok (.bipush 59, 2) := dk_16 59 (dk_at dksX0_readsBorrowers_9 18 rfl rfl)
theorem dX0_readsBorrowers_235 : decode cX0_readsBorrowers 235 = .ok (.if_icmp .eq 5, 3) := dk_159 0 5 (dk_at dksX0_readsBorrowers_9 20 rfl rfl)
theorem dX0_readsBorrowers_238 : decode cX0_readsBorrowers 238 = .ok (.iload_n 2, 1) := dk_28 (dk_at dksX0_readsBorrowers_9 23 rfl rfl)
theorem dX0_readsBorrowers_239 : decode cX0_readsBorrowers 239 = .ok (.ireturn, 1) := dk_172 (dk_at dksX0_readsBorrowers_10 0 rfl rfl)
theorem dX0_readsBorrowers_240 : decode cX0_readsBorrowers 240 = .ok (.iload_n 2, 1) := dk_28 (dk_at dksX0_readsBorrowers_10 1 rfl rfl)
theorem dX0_readsBorrowers_241 : decode cX0_readsBorrowers 241 = .ok (.iload_n 3, 1) := dk_29 (dk_at dksX0_readsBorrowers_10 2 rfl rfl)
theorem dX0_readsBorrowers_242 : decode cX0_readsBorrowers 242 = .ok (.ifCond .eq 7, 3) := dk_153 0 7 (dk_at dksX0_readsBorrowers_10 3 rfl rfl)
theorem dX0_readsBorrowers_245 : decode cX0_readsBorrowers 245 = .ok (.iconst 1, 1) := dk_4 (dk_at dksX0_readsBorrowers_10 6 rfl rfl)
theorem dX0_readsBorrowers_246 : decode cX0_readsBorrowers 246 = .ok (.goto 4, 3) := dk_167 0 4 (dk_at dksX0_readsBorrowers_10 7 rfl rfl)
theorem dX0_readsBorrowers_249 : decode cX0_readsBorrowers 249 = .ok (.iconst 0, 1) := dk_3 (dk_at dksX0_readsBorrowers_10 10 rfl rfl)
theorem dX0_readsBorrowers_250 : decode cX0_readsBorrowers 250 = .ok (.iadd, 1) := dk_96 (dk_at dksX0_readsBorrowers_10 11 rfl rfl)
theorem dX0_readsBorrowers_251 : decode cX0_readsBorrowers 251 = .ok (.istore_n 2, 1) := dk_61 (dk_at dksX0_readsBorrowers_10 12 rfl rfl)
theorem dX0_readsBorrowers_252 : decode cX0_readsBorrowers 252 = .ok (.goto (-228), 3) := dk_167 255 28 (dk_at dksX0_readsBorrowers_10 13 rfl rfl)
theorem dX0_readsBorrowers_255 : decode cX0_readsBorrowers 255 = .ok (.aload_n 0, 1) := dk_42 (dk_at dksX0_readsBorrowers_10 16 rfl rfl)
theorem dX0_readsBorrowers_256 : decode cX0_readsBorrowers 256 = .ok (.iload_n 1, 1) := dk_27 (dk_at dksX0_readsBorrowers_10 17 rfl rfl)
theorem dX0_readsBorrowers_257 : decode cX0_readsBorrowers 257 = .ok (.putfield 46, 3) := dk_181 0 46 (dk_at dksX0_readsBorrowers_10 18 rfl rfl)
theorem dX0_readsBorrowers_260 : decode cX0_readsBorrowers 260 = .ok (.iconst (-1), 1) := dk_2 (dk_at dksX0_readsBorrowers_10 21 rfl rfl)
theorem dX0_readsBorrowers_261 : decode cX0_readsBorrowers 261 = .ok (.ireturn, 1) := dk_172 (dk_at dksX0_readsBorrowers_10 22 rfl rfl)
def dkwX0_tune_1 : List UInt8 := [28, 184, 0, 89, 167, 0, 5, 16, 254, 172]
abbrev dktX0_tune_1 : List UInt8 := dkwX0_tune_1 ++ []
def dkwX0_tune_0 : List UInt8 := [42, 27, 182, 0, 86, 153, 0, 26, 28, 2, 16, 11, 184, 0, 5, 153, 0, 16, 42, 180, 0, 33, 27, 50]
abbrev dktX0_tune_0 : List UInt8 := dkwX0_tune_0 ++ dktX0_tune_1
theorem dksX0_tune_0 : cX0_tune.data.toList.drop 0 = dktX0_tune_0 := by decide +kernel
theorem dksX0_tune_1 : cX0_tune.data.toList.drop 24 = dktX0_tune_1 := dk_seg dksX0_tune_0 24 rfl rfl
theorem dX0_tune_0 : decode cX0_tune 0 = .ok (.aload_n 0, 1) := dk_42 (dk_at dksX0_tune_0 0 rfl rfl)
theorem dX0_tune_1 : decode cX0_tune 1 = .ok (.iload_n 1, 1) := dk_27 (dk_at dksX0_tune_0 1 rfl rfl)
theorem dX0_tune_2 : decode cX0_tune 2 = .ok (.invokevirtual 86, 3) := dk_182 0 86 (dk_at dksX0_tune_0 2 rfl rfl)
theorem dX0_tune_5 : decode cX0_tune 5 = .ok (.ifCond .eq 26, 3) := dk_153 0 26 (dk_at dksX0_tune_0 5 rfl rfl)
theorem dX0_tune_8 : decode cX0_tune 8 = .ok (.iload_n 2, 1) := dk_28 (dk_at dksX0_tune_0 8 rfl rfl)
theorem dX0_tune_9 : decode cX0_tune 9 = .ok (.iconst (-1), 1) := dk_2 (dk_at dksX0_tune_0 9 rfl rfl)
theorem dX0_tune_10 : decode cX0_tune 10 = .ok (.bipush 11, 2) := dk_16 11 (dk_at dksX0_tune_0 10 rfl rfl)
theorem dX0_tune_12 : decode cX0_tune 12 = .ok (.invokestatic 5, 3) := dk_184 0 5 (dk_at dksX0_tune_0 12 rfl rfl)
theorem dX0_tune_15 : decode cX0_tune 15 = .ok (.ifCond .eq 16, 3) := dk_153 0 16 (dk_at dksX0_tune_0 15 rfl rfl)
theorem dX0_tune_18 : decode cX0_tune 18 = .ok (.aload_n 0, 1) := dk_42 (dk_at dksX0_tune_0 18 rfl rfl)
theorem dX0_tune_19 : decode cX0_tune 19 = .ok (.getfield 33, 3) := dk_180 0 33 (dk_at dksX0_tune_0 19 rfl rfl)
theorem dX0_tune_22 : decode cX0_tune 22 = .ok (.iload_n 1, 1) := dk_27 (dk_at dksX0_tune_0 22 rfl rfl)
theorem dX0_tune_23 : decode cX0_tune 23 = .ok (.aaload, 1) := dk_50 (dk_at dksX0_tune_0 23 rfl rfl)
theorem dX0_tune_24 : decode cX0_tune 24 = .ok (.iload_n 2, 1) := dk_28 (dk_at dksX0_tune_1 0 rfl rfl)
theorem dX0_tune_25 : decode cX0_tune 25 = .ok (.invokestatic 89, 3) := dk_184 0 89 (dk_at dksX0_tune_1 1 rfl rfl)
theorem dX0_tune_28 : decode cX0_tune 28 = .ok (.goto 5, 3) := dk_167 0 5 (dk_at dksX0_tune_1 4 rfl rfl)
theorem dX0_tune_31 : decode cX0_tune 31 = .ok (.bipush (-2), 2) := dk_16 254 (dk_at dksX0_tune_1 7 rfl rfl)
theorem dX0_tune_33 : decode cX0_tune 33 = .ok (.ireturn, 1) := dk_172 (dk_at dksX0_tune_1 9 rfl rfl)
def dkwX0_isTune_0 : List UInt8 := [42, 182, 0, 75, 27, 3, 42, 180, 0, 25, 4, 100, 184, 0, 5, 172]
abbrev dktX0_isTune_0 : List UInt8 := dkwX0_isTune_0 ++ []
theorem dksX0_isTune_0 : cX0_isTune.data.toList.drop 0 = dktX0_isTune_0 := by decide +kernel
theorem dX0_isTune_0 : decode cX0_isTune 0 = .ok (.aload_n 0, 1) := dk_42 (dk_at dksX0_isTune_0 0 rfl rfl)
theorem dX0_isTune_1 : decode cX0_isTune 1 = .ok (.invokevirtual 75, 3) := dk_182 0 75 (dk_at dksX0_isTune_0 1 rfl rfl)
theorem dX0_isTune_4 : decode cX0_isTune 4 = .ok (.iload_n 1, 1) := dk_27 (dk_at dksX0_isTune_0 4 rfl rfl)
theorem dX0_isTune_5 : decode cX0_isTune 5 = .ok (.iconst 0, 1) := dk_3 (dk_at dksX0_isTune_0 5 rfl rfl)
theorem dX0_isTune_6 : decode cX0_isTune 6 = .ok (.aload_n 0, 1) := dk_42 (dk_at dksX0_isTune_0 6 rfl rfl)
theorem dX0_isTune_7 : decode cX0_isTune 7 = .ok (.getfield 25, 3) := dk_180 0 25 (dk_at dksX0_isTune_0 7 rfl rfl)
theorem dX0_isTune_10 : decode cX0_isTune 10 = .ok (.iconst 1, 1) := dk_4 (dk_at dksX0_isTune_0 10 rfl rfl)
theorem dX0_isTune_11 : decode cX0_isTune 11 = .ok (.isub, 1) := dk_100 (dk_at dksX0_isTune_0 11 rfl rfl)
theorem dX0_isTune_12 : decode cX0_isTune 12 = .ok (.invokestatic 5, 3) := dk_184 0 5 (dk_at dksX0_isTune_0 12 rfl rfl)
theorem dX0_isTune_15 : decode cX0_isTune 15 = .ok (.ireturn, 1) := dk_172 (dk_at dksX0_isTune_0 15 rfl rfl)
def dkwX0_noteOf_1 : List UInt8 := [27, 46, 167, 0, 4, 2, 172]
abbrev dktX0_noteOf_1 : List UInt8 := dkwX0_noteOf_1 ++ []
def dkwX0_noteOf_0 : List UInt8 := [27, 2, 160, 0, 10, 42, 180, 0, 37, 167, 0, 21, 27, 42, 180, 0, 37, 162, 0, 12, 42, 180, 0, 83]
abbrev dktX0_noteOf_0 : List UInt8 := dkwX0_noteOf_0 ++ dktX0_noteOf_1
theorem dksX0_noteOf_0 : cX0_noteOf.data.toList.drop 0 = dktX0_noteOf_0 := by decide +kernel
theorem dksX0_noteOf_1 : cX0_noteOf.data.toList.drop 24 = dktX0_noteOf_1 := dk_seg dksX0_noteOf_0 24 rfl rfl
theorem dX0_noteOf_0 : decode cX0_noteOf 0 = .ok (.iload_n 1, 1) := dk_27 (dk_at dksX0_noteOf_0 0 rfl rfl)
theorem dX0_noteOf_1 : decode cX0_noteOf 1 = .ok (.iconst (-1), 1) := dk_2 (dk_at dksX0_noteOf_0 1 rfl rfl)
theorem dX0_noteOf_2 : decode cX0_noteOf 2 = .ok (.if_icmp .ne 10, 3) := dk_160 0 10 (dk_at dksX0_noteOf_0 2 rfl rfl)
theorem dX0_noteOf_5 : decode cX0_noteOf 5 = .ok (.aload_n 0, 1) := dk_42 (dk_at dksX0_noteOf_0 5 rfl rfl)
theorem dX0_noteOf_6 : decode cX0_noteOf 6 = .ok (.getfield 37, 3) := dk_180 0 37 (dk_at dksX0_noteOf_0 6 rfl rfl)
theorem dX0_noteOf_9 : decode cX0_noteOf 9 = .ok (.goto 21, 3) := dk_167 0 21 (dk_at dksX0_noteOf_0 9 rfl rfl)
theorem dX0_noteOf_12 : decode cX0_noteOf 12 = .ok (.iload_n 1, 1) := dk_27 (dk_at dksX0_noteOf_0 12 rfl rfl)
theorem dX0_noteOf_13 : decode cX0_noteOf 13 = .ok (.aload_n 0, 1) := dk_42 (dk_at dksX0_noteOf_0 13 rfl rfl)
theorem dX0_noteOf_14 : decode cX0_noteOf 14 = .ok (.getfield 37, 3) := dk_180 0 37 (dk_at dksX0_noteOf_0 14 rfl rfl)
theorem dX0_noteOf_17 : decode cX0_noteOf 17 = .ok (.if_icmp .ge 12, 3) := dk_162 0 12 (dk_at dksX0_noteOf_0 17 rfl rfl)
theorem dX0_noteOf_20 : decode cX0_noteOf 20 = .ok (.aload_n 0, 1) := dk_42 (dk_at dksX0_noteOf_0 20 rfl rfl)
theorem dX0_noteOf_21 : decode cX0_noteOf 21 = .ok (.getfield 83, 3) := dk_180 0 83 (dk_at dksX0_noteOf_0 21 rfl rfl)
theorem dX0_noteOf_24 : decode cX0_noteOf 24 = .ok (.iload_n 1, 1) := dk_27 (dk_at dksX0_noteOf_1 0 rfl rfl)
theorem dX0_noteOf_25 : decode cX0_noteOf 25 = .ok (.iaload, 1) := dk_46 (dk_at dksX0_noteOf_1 1 rfl rfl)
theorem dX0_noteOf_26 : decode cX0_noteOf 26 = .ok (.goto 4, 3) := dk_167 0 4 (dk_at dksX0_noteOf_1 2 rfl rfl)
theorem dX0_noteOf_29 : decode cX0_noteOf 29 = .ok (.iconst (-1), 1) := dk_2 (dk_at dksX0_noteOf_1 5 rfl rfl)
theorem dX0_noteOf_30 : decode cX0_noteOf 30 = .ok (.ireturn, 1) := dk_172 (dk_at dksX0_noteOf_1 6 rfl rfl)
def dkwX0_borrower_1 : List UInt8 := [167, 0, 5, 16, 254, 172]
abbrev dktX0_borrower_1 : List UInt8 := dkwX0_borrower_1 ++ []
def dkwX0_borrower_0 : List UInt8 := [42, 27, 182, 0, 96, 153, 0, 21, 28, 3, 5, 184, 0, 5, 153, 0, 12, 42, 27, 28, 182, 0, 99]
abbrev dktX0_borrower_0 : List UInt8 := dkwX0_borrower_0 ++ dktX0_borrower_1
theorem dksX0_borrower_0 : cX0_borrower.data.toList.drop 0 = dktX0_borrower_0 := by decide +kernel
theorem dksX0_borrower_1 : cX0_borrower.data.toList.drop 23 = dktX0_borrower_1 := dk_seg dksX0_borrower_0 23 rfl rfl
theorem dX0_borrower_0 : decode cX0_borrower 0 = .ok (.aload_n 0, 1) := dk_42 (dk_at dksX0_borrower_0 0 rfl rfl)
theorem dX0_borrower_1 : decode cX0_borrower 1 = .ok (.iload_n 1, 1) := dk_27 (dk_at dksX0_borrower_0 1 rfl rfl)
theorem dX0_borrower_2 : decode cX0_borrower 2 = .ok (.invokevirtual 96, 3) := dk_182 0 96 (dk_at dksX0_borrower_0 2 rfl rfl)
theorem dX0_borrower_5 : decode cX0_borrower 5 = .ok (.ifCond .eq 21, 3) := dk_153 0 21 (dk_at dksX0_borrower_0 5 rfl rfl)
theorem dX0_borrower_8 : decode cX0_borrower 8 = .ok (.iload_n 2, 1) := dk_28 (dk_at dksX0_borrower_0 8 rfl rfl)
theorem dX0_borrower_9 : decode cX0_borrower 9 = .ok (.iconst 0, 1) := dk_3 (dk_at dksX0_borrower_0 9 rfl rfl)
theorem dX0_borrower_10 : decode cX0_borrower 10 = .ok (.iconst 2, 1) := dk_5 (dk_at dksX0_borrower_0 10 rfl rfl)
theorem dX0_borrower_11 : decode cX0_borrower 11 = .ok (.invokestatic 5, 3) := dk_184 0 5 (dk_at dksX0_borrower_0 11 rfl rfl)
theorem dX0_borrower_14 : decode cX0_borrower 14 = .ok (.ifCond .eq 12, 3) := dk_153 0 12 (dk_at dksX0_borrower_0 14 rfl rfl)
theorem dX0_borrower_17 : decode cX0_borrower 17 = .ok (.aload_n 0, 1) := dk_42 (dk_at dksX0_borrower_0 17 rfl rfl)
theorem dX0_borrower_18 : decode cX0_borrower 18 = .ok (.iload_n 1, 1) := dk_27 (dk_at dksX0_borrower_0 18 rfl rfl)
theorem dX0_borrower_19 : decode cX0_borrower 19 = .ok (.iload_n 2, 1) := dk_28 (dk_at dksX0_borrower_0 19 rfl rfl)
theorem dX0_borrower_20 : decode cX0_borrower 20 = .ok (.invokevirtual 99, 3) := dk_182 0 99 (dk_at dksX0_borrower_0 20 rfl rfl)
theorem dX0_borrower_23 : decode cX0_borrower 23 = .ok (.goto 5, 3) := dk_167 0 5 (dk_at dksX0_borrower_1 0 rfl rfl)
theorem dX0_borrower_26 : decode cX0_borrower 26 = .ok (.bipush (-2), 2) := dk_16 254 (dk_at dksX0_borrower_1 3 rfl rfl)
theorem dX0_borrower_28 : decode cX0_borrower 28 = .ok (.ireturn, 1) := dk_172 (dk_at dksX0_borrower_1 5 rfl rfl)
def dkwX0_isBorrower_0 : List UInt8 := [42, 182, 0, 75, 27, 3, 42, 180, 0, 46, 4, 100, 184, 0, 5, 172]
abbrev dktX0_isBorrower_0 : List UInt8 := dkwX0_isBorrower_0 ++ []
theorem dksX0_isBorrower_0 : cX0_isBorrower.data.toList.drop 0 = dktX0_isBorrower_0 := by decide +kernel
theorem dX0_isBorrower_0 : decode cX0_isBorrower 0 = .ok (.aload_n 0, 1) := dk_42 (dk_at dksX0_isBorrower_0 0 rfl rfl)
theorem dX0_isBorrower_1 : decode cX0_isBorrower 1 = .ok (.invokevirtual 75, 3) := dk_182 0 75 (dk_at dksX0_isBorrower_0 1 rfl rfl)
theorem dX0_isBorrower_4 : decode cX0_isBorrower 4 = .ok (.iload_n 1, 1) := dk_27 (dk_at dksX0_isBorrower_0 4 rfl rfl)
theorem dX0_isBorrower_5 : decode cX0_isBorrower 5 = .ok (.iconst 0, 1) := dk_3 (dk_at dksX0_isBorrower_0 5 rfl rfl)
theorem dX0_isBorrower_6 : decode cX0_isBorrower 6 = .ok (.aload_n 0, 1) := dk_42 (dk_at dksX0_isBorrower_0 6 rfl rfl)
theorem dX0_isBorrower_7 : decode cX0_isBorrower 7 = .ok (.getfield 46, 3) := dk_180 0 46 (dk_at dksX0_isBorrower_0 7 rfl rfl)
theorem dX0_isBorrower_10 : decode cX0_isBorrower 10 = .ok (.iconst 1, 1) := dk_4 (dk_at dksX0_isBorrower_0 10 rfl rfl)
theorem dX0_isBorrower_11 : decode cX0_isBorrower 11 = .ok (.isub, 1) := dk_100 (dk_at dksX0_isBorrower_0 11 rfl rfl)
theorem dX0_isBorrower_12 : decode cX0_isBorrower 12 = .ok (.invokestatic 5, 3) := dk_184 0 5 (dk_at dksX0_isBorrower_0 12 rfl rfl)
theorem dX0_isBorrower_15 : decode cX0_isBorrower 15 = .ok (.ireturn, 1) := dk_172 (dk_at dksX0_isBorrower_0 15 rfl rfl)
def dkwX0_borrowerOf_1 : List UInt8 := [180, 0, 49, 27, 50, 182, 0, 93, 167, 0, 12, 42, 180, 0, 49, 27, 50, 180, 0, 62, 172]
abbrev dktX0_borrowerOf_1 : List UInt8 := dkwX0_borrowerOf_1 ++ []
def dkwX0_borrowerOf_0 : List UInt8 := [28, 154, 0, 15, 42, 180, 0, 49, 27, 50, 180, 0, 57, 167, 0, 29, 28, 4, 160, 0, 15, 42]
abbrev dktX0_borrowerOf_0 : List UInt8 := dkwX0_borrowerOf_0 ++ dktX0_borrowerOf_1
theorem dksX0_borrowerOf_0 : cX0_borrowerOf.data.toList.drop 0 = dktX0_borrowerOf_0 := by decide +kernel
theorem dksX0_borrowerOf_1 : cX0_borrowerOf.data.toList.drop 22 = dktX0_borrowerOf_1 := dk_seg dksX0_borrowerOf_0 22 rfl rfl
theorem dX0_borrowerOf_0 : decode cX0_borrowerOf 0 = .ok (.iload_n 2, 1) := dk_28 (dk_at dksX0_borrowerOf_0 0 rfl rfl)
theorem dX0_borrowerOf_1 : decode cX0_borrowerOf 1 = .ok (.ifCond .ne 15, 3) := dk_154 0 15 (dk_at dksX0_borrowerOf_0 1 rfl rfl)
theorem dX0_borrowerOf_4 : decode cX0_borrowerOf 4 = .ok (.aload_n 0, 1) := dk_42 (dk_at dksX0_borrowerOf_0 4 rfl rfl)
theorem dX0_borrowerOf_5 : decode cX0_borrowerOf 5 = .ok (.getfield 49, 3) := dk_180 0 49 (dk_at dksX0_borrowerOf_0 5 rfl rfl)
theorem dX0_borrowerOf_8 : decode cX0_borrowerOf 8 = .ok (.iload_n 1, 1) := dk_27 (dk_at dksX0_borrowerOf_0 8 rfl rfl)
theorem dX0_borrowerOf_9 : decode cX0_borrowerOf 9 = .ok (.aaload, 1) := dk_50 (dk_at dksX0_borrowerOf_0 9 rfl rfl)
theorem dX0_borrowerOf_10 : decode cX0_borrowerOf 10 = .ok (.getfield 57, 3) := dk_180 0 57 (dk_at dksX0_borrowerOf_0 10 rfl rfl)
theorem dX0_borrowerOf_13 : decode cX0_borrowerOf 13 = .ok (.goto 29, 3) := dk_167 0 29 (dk_at dksX0_borrowerOf_0 13 rfl rfl)
theorem dX0_borrowerOf_16 : decode cX0_borrowerOf 16 = .ok (.iload_n 2, 1) := dk_28 (dk_at dksX0_borrowerOf_0 16 rfl rfl)
theorem dX0_borrowerOf_17 : decode cX0_borrowerOf 17 = .ok (.iconst 1, 1) := dk_4 (dk_at dksX0_borrowerOf_0 17 rfl rfl)
theorem dX0_borrowerOf_18 : decode cX0_borrowerOf 18 = .ok (.if_icmp .ne 15, 3) := dk_160 0 15 (dk_at dksX0_borrowerOf_0 18 rfl rfl)
theorem dX0_borrowerOf_21 : decode cX0_borrowerOf 21 = .ok (.aload_n 0, 1) := dk_42 (dk_at dksX0_borrowerOf_0 21 rfl rfl)
theorem dX0_borrowerOf_22 : decode cX0_borrowerOf 22 = .ok (.getfield 49, 3) := dk_180 0 49 (dk_at dksX0_borrowerOf_1 0 rfl rfl)
theorem dX0_borrowerOf_25 : decode cX0_borrowerOf 25 = .ok (.iload_n 1, 1) := dk_27 (dk_at dksX0_borrowerOf_1 3 rfl rfl)
theorem dX0_borrowerOf_26 : decode cX0_borrowerOf 26 = .ok (.aaload, 1) := dk_50 (dk_at dksX0_borrowerOf_1 4 rfl rfl)
theorem dX0_borrowerOf_27 : decode cX0_borrowerOf 27 = .ok (.invokevirtual 93, 3) := dk_182 0 93 (dk_at dksX0_borrowerOf_1 5 rfl rfl)
theorem dX0_borrowerOf_30 : decode cX0_borrowerOf 30 = .ok (.goto 12, 3) := dk_167 0 12 (dk_at dksX0_borrowerOf_1 8 rfl rfl)
theorem dX0_borrowerOf_33 : decode cX0_borrowerOf 33 = .ok (.aload_n 0, 1) := dk_42 (dk_at dksX0_borrowerOf_1 11 rfl rfl)
theorem dX0_borrowerOf_34 : decode cX0_borrowerOf 34 = .ok (.getfield 49, 3) := dk_180 0 49 (dk_at dksX0_borrowerOf_1 12 rfl rfl)
theorem dX0_borrowerOf_37 : decode cX0_borrowerOf 37 = .ok (.iload_n 1, 1) := dk_27 (dk_at dksX0_borrowerOf_1 15 rfl rfl)
theorem dX0_borrowerOf_38 : decode cX0_borrowerOf 38 = .ok (.aaload, 1) := dk_50 (dk_at dksX0_borrowerOf_1 16 rfl rfl)
theorem dX0_borrowerOf_39 : decode cX0_borrowerOf 39 = .ok (.getfield 62, 3) := dk_180 0 62 (dk_at dksX0_borrowerOf_1 17 rfl rfl)
theorem dX0_borrowerOf_42 : decode cX0_borrowerOf 42 = .ok (.ireturn, 1) := dk_172 (dk_at dksX0_borrowerOf_1 20 rfl rfl)
def dkwX0_loan_4 : List UInt8 := [42, 89, 180, 0, 108, 4, 96, 181, 0, 108, 42, 180, 0, 108, 172]
abbrev dktX0_loan_4 : List UInt8 := dkwX0_loan_4 ++ []
def dkwX0_loan_3 : List UInt8 := [180, 0, 111, 5, 50, 42, 180, 0, 108, 29, 79, 42, 180, 0, 111, 6, 50, 42, 180, 0, 108, 21, 4, 79]
abbrev dktX0_loan_3 : List UInt8 := dkwX0_loan_3 ++ dktX0_loan_4
def dkwX0_loan_2 : List UInt8 := [180, 0, 111, 3, 50, 42, 180, 0, 108, 27, 79, 42, 180, 0, 111, 4, 50, 42, 180, 0, 108, 28, 79, 42]
abbrev dktX0_loan_2 : List UInt8 := dkwX0_loan_2 ++ dktX0_loan_3
def dkwX0_loan_1 : List UInt8 := [16, 9, 184, 0, 5, 154, 0, 6, 16, 254, 172, 42, 180, 0, 108, 16, 12, 160, 0, 6, 16, 252, 172, 42]
abbrev dktX0_loan_1 : List UInt8 := dkwX0_loan_1 ++ dktX0_loan_2
def dkwX0_loan_0 : List UInt8 := [27, 184, 0, 102, 153, 0, 28, 28, 184, 0, 105, 153, 0, 21, 29, 184, 0, 105, 153, 0, 14, 21, 4, 4]
abbrev dktX0_loan_0 : List UInt8 := dkwX0_loan_0 ++ dktX0_loan_1
theorem dksX0_loan_0 : cX0_loan.data.toList.drop 0 = dktX0_loan_0 := by decide +kernel
theorem dksX0_loan_1 : cX0_loan.data.toList.drop 24 = dktX0_loan_1 := dk_seg dksX0_loan_0 24 rfl rfl
theorem dksX0_loan_2 : cX0_loan.data.toList.drop 48 = dktX0_loan_2 := dk_seg dksX0_loan_1 24 rfl rfl
theorem dksX0_loan_3 : cX0_loan.data.toList.drop 72 = dktX0_loan_3 := dk_seg dksX0_loan_2 24 rfl rfl
theorem dksX0_loan_4 : cX0_loan.data.toList.drop 96 = dktX0_loan_4 := dk_seg dksX0_loan_3 24 rfl rfl
theorem dX0_loan_0 : decode cX0_loan 0 = .ok (.iload_n 1, 1) := dk_27 (dk_at dksX0_loan_0 0 rfl rfl)
theorem dX0_loan_1 : decode cX0_loan 1 = .ok (.invokestatic 102, 3) := dk_184 0 102 (dk_at dksX0_loan_0 1 rfl rfl)
theorem dX0_loan_4 : decode cX0_loan 4 = .ok (.ifCond .eq 28, 3) := dk_153 0 28 (dk_at dksX0_loan_0 4 rfl rfl)
theorem dX0_loan_7 : decode cX0_loan 7 = .ok (.iload_n 2, 1) := dk_28 (dk_at dksX0_loan_0 7 rfl rfl)
theorem dX0_loan_8 : decode cX0_loan 8 = .ok (.invokestatic 105, 3) := dk_184 0 105 (dk_at dksX0_loan_0 8 rfl rfl)
theorem dX0_loan_11 : decode cX0_loan 11 = .ok (.ifCond .eq 21, 3) := dk_153 0 21 (dk_at dksX0_loan_0 11 rfl rfl)
theorem dX0_loan_14 : decode cX0_loan 14 = .ok (.iload_n 3, 1) := dk_29 (dk_at dksX0_loan_0 14 rfl rfl)
theorem dX0_loan_15 : decode cX0_loan 15 = .ok (.invokestatic 105, 3) := dk_184 0 105 (dk_at dksX0_loan_0 15 rfl rfl)
theorem dX0_loan_18 : decode cX0_loan 18 = .ok (.ifCond .eq 14, 3) := dk_153 0 14 (dk_at dksX0_loan_0 18 rfl rfl)
theorem dX0_loan_21 : decode cX0_loan 21 = .ok (.iload 4, 2) := dk_21 4 (dk_at dksX0_loan_0 21 rfl rfl)
theorem dX0_loan_23 : decode cX0_loan 23 = .ok (.iconst 1, 1) := dk_4 (dk_at dksX0_loan_0 23 rfl rfl)
theorem dX0_loan_24 : decode cX0_loan 24 = .ok (.bipush 9, 2) := dk_16 9 (dk_at dksX0_loan_1 0 rfl rfl)
theorem dX0_loan_26 : decode cX0_loan 26 = .ok (.invokestatic 5, 3) := dk_184 0 5 (dk_at dksX0_loan_1 2 rfl rfl)
theorem dX0_loan_29 : decode cX0_loan 29 = .ok (.ifCond .ne 6, 3) := dk_154 0 6 (dk_at dksX0_loan_1 5 rfl rfl)
theorem dX0_loan_32 : decode cX0_loan 32 = .ok (.bipush (-2), 2) := dk_16 254 (dk_at dksX0_loan_1 8 rfl rfl)
theorem dX0_loan_34 : decode cX0_loan 34 = .ok (.ireturn, 1) := dk_172 (dk_at dksX0_loan_1 10 rfl rfl)
theorem dX0_loan_35 : decode cX0_loan 35 = .ok (.aload_n 0, 1) := dk_42 (dk_at dksX0_loan_1 11 rfl rfl)
theorem dX0_loan_36 : decode cX0_loan 36 = .ok (.getfield 108, 3) := dk_180 0 108 (dk_at dksX0_loan_1 12 rfl rfl)
theorem dX0_loan_39 : decode cX0_loan 39 = .ok (.bipush 12, 2) := dk_16 12 (dk_at dksX0_loan_1 15 rfl rfl)
theorem dX0_loan_41 : decode cX0_loan 41 = .ok (.if_icmp .ne 6, 3) := dk_160 0 6 (dk_at dksX0_loan_1 17 rfl rfl)
theorem dX0_loan_44 : decode cX0_loan 44 = .ok (.bipush (-4), 2) := dk_16 252 (dk_at dksX0_loan_1 20 rfl rfl)
theorem dX0_loan_46 : decode cX0_loan 46 = .ok (.ireturn, 1) := dk_172 (dk_at dksX0_loan_1 22 rfl rfl)
theorem dX0_loan_47 : decode cX0_loan 47 = .ok (.aload_n 0, 1) := dk_42 (dk_at dksX0_loan_1 23 rfl rfl)
theorem dX0_loan_48 : decode cX0_loan 48 = .ok (.getfield 111, 3) := dk_180 0 111 (dk_at dksX0_loan_2 0 rfl rfl)
theorem dX0_loan_51 : decode cX0_loan 51 = .ok (.iconst 0, 1) := dk_3 (dk_at dksX0_loan_2 3 rfl rfl)
theorem dX0_loan_52 : decode cX0_loan 52 = .ok (.aaload, 1) := dk_50 (dk_at dksX0_loan_2 4 rfl rfl)
theorem dX0_loan_53 : decode cX0_loan 53 = .ok (.aload_n 0, 1) := dk_42 (dk_at dksX0_loan_2 5 rfl rfl)
theorem dX0_loan_54 : decode cX0_loan 54 = .ok (.getfield 108, 3) := dk_180 0 108 (dk_at dksX0_loan_2 6 rfl rfl)
theorem dX0_loan_57 : decode cX0_loan 57 = .ok (.iload_n 1, 1) := dk_27 (dk_at dksX0_loan_2 9 rfl rfl)
theorem dX0_loan_58 : decode cX0_loan 58 = .ok (.iastore, 1) := dk_79 (dk_at dksX0_loan_2 10 rfl rfl)
theorem dX0_loan_59 : decode cX0_loan 59 = .ok (.aload_n 0, 1) := dk_42 (dk_at dksX0_loan_2 11 rfl rfl)
theorem dX0_loan_60 : decode cX0_loan 60 = .ok (.getfield 111, 3) := dk_180 0 111 (dk_at dksX0_loan_2 12 rfl rfl)
theorem dX0_loan_63 : decode cX0_loan 63 = .ok (.iconst 1, 1) := dk_4 (dk_at dksX0_loan_2 15 rfl rfl)
theorem dX0_loan_64 : decode cX0_loan 64 = .ok (.aaload, 1) := dk_50 (dk_at dksX0_loan_2 16 rfl rfl)
theorem dX0_loan_65 : decode cX0_loan 65 = .ok (.aload_n 0, 1) := dk_42 (dk_at dksX0_loan_2 17 rfl rfl)
theorem dX0_loan_66 : decode cX0_loan 66 = .ok (.getfield 108, 3) := dk_180 0 108 (dk_at dksX0_loan_2 18 rfl rfl)
theorem dX0_loan_69 : decode cX0_loan 69 = .ok (.iload_n 2, 1) := dk_28 (dk_at dksX0_loan_2 21 rfl rfl)
theorem dX0_loan_70 : decode cX0_loan 70 = .ok (.iastore, 1) := dk_79 (dk_at dksX0_loan_2 22 rfl rfl)
theorem dX0_loan_71 : decode cX0_loan 71 = .ok (.aload_n 0, 1) := dk_42 (dk_at dksX0_loan_2 23 rfl rfl)
theorem dX0_loan_72 : decode cX0_loan 72 = .ok (.getfield 111, 3) := dk_180 0 111 (dk_at dksX0_loan_3 0 rfl rfl)
theorem dX0_loan_75 : decode cX0_loan 75 = .ok (.iconst 2, 1) := dk_5 (dk_at dksX0_loan_3 3 rfl rfl)
theorem dX0_loan_76 : decode cX0_loan 76 = .ok (.aaload, 1) := dk_50 (dk_at dksX0_loan_3 4 rfl rfl)
theorem dX0_loan_77 : decode cX0_loan 77 = .ok (.aload_n 0, 1) := dk_42 (dk_at dksX0_loan_3 5 rfl rfl)
theorem dX0_loan_78 : decode cX0_loan 78 = .ok (.getfield 108, 3) := dk_180 0 108 (dk_at dksX0_loan_3 6 rfl rfl)
theorem dX0_loan_81 : decode cX0_loan 81 = .ok (.iload_n 3, 1) := dk_29 (dk_at dksX0_loan_3 9 rfl rfl)
theorem dX0_loan_82 : decode cX0_loan 82 = .ok (.iastore, 1) := dk_79 (dk_at dksX0_loan_3 10 rfl rfl)
theorem dX0_loan_83 : decode cX0_loan 83 = .ok (.aload_n 0, 1) := dk_42 (dk_at dksX0_loan_3 11 rfl rfl)
theorem dX0_loan_84 : decode cX0_loan 84 = .ok (.getfield 111, 3) := dk_180 0 111 (dk_at dksX0_loan_3 12 rfl rfl)
theorem dX0_loan_87 : decode cX0_loan 87 = .ok (.iconst 3, 1) := dk_6 (dk_at dksX0_loan_3 15 rfl rfl)
theorem dX0_loan_88 : decode cX0_loan 88 = .ok (.aaload, 1) := dk_50 (dk_at dksX0_loan_3 16 rfl rfl)
theorem dX0_loan_89 : decode cX0_loan 89 = .ok (.aload_n 0, 1) := dk_42 (dk_at dksX0_loan_3 17 rfl rfl)
theorem dX0_loan_90 : decode cX0_loan 90 = .ok (.getfield 108, 3) := dk_180 0 108 (dk_at dksX0_loan_3 18 rfl rfl)
theorem dX0_loan_93 : decode cX0_loan 93 = .ok (.iload 4, 2) := dk_21 4 (dk_at dksX0_loan_3 21 rfl rfl)
theorem dX0_loan_95 : decode cX0_loan 95 = .ok (.iastore, 1) := dk_79 (dk_at dksX0_loan_3 23 rfl rfl)
theorem dX0_loan_96 : decode cX0_loan 96 = .ok (.aload_n 0, 1) := dk_42 (dk_at dksX0_loan_4 0 rfl rfl)
theorem dX0_loan_97 : decode cX0_loan 97 = .ok (.dup, 1) := dk_89 (dk_at dksX0_loan_4 1 rfl rfl)
theorem dX0_loan_98 : decode cX0_loan 98 = .ok (.getfield 108, 3) := dk_180 0 108 (dk_at dksX0_loan_4 2 rfl rfl)
theorem dX0_loan_101 : decode cX0_loan 101 = .ok (.iconst 1, 1) := dk_4 (dk_at dksX0_loan_4 5 rfl rfl)
theorem dX0_loan_102 : decode cX0_loan 102 = .ok (.iadd, 1) := dk_96 (dk_at dksX0_loan_4 6 rfl rfl)
theorem dX0_loan_103 : decode cX0_loan 103 = .ok (.putfield 108, 3) := dk_181 0 108 (dk_at dksX0_loan_4 7 rfl rfl)
theorem dX0_loan_106 : decode cX0_loan 106 = .ok (.aload_n 0, 1) := dk_42 (dk_at dksX0_loan_4 10 rfl rfl)
theorem dX0_loan_107 : decode cX0_loan 107 = .ok (.getfield 108, 3) := dk_180 0 108 (dk_at dksX0_loan_4 11 rfl rfl)
theorem dX0_loan_110 : decode cX0_loan 110 = .ok (.ireturn, 1) := dk_172 (dk_at dksX0_loan_4 14 rfl rfl)
def dkwX0_isYear_0 : List UInt8 := [26, 3, 16, 39, 184, 0, 5, 172]
abbrev dktX0_isYear_0 : List UInt8 := dkwX0_isYear_0 ++ []
theorem dksX0_isYear_0 : cX0_isYear.data.toList.drop 0 = dktX0_isYear_0 := by decide +kernel
theorem dX0_isYear_0 : decode cX0_isYear 0 = .ok (.iload_n 0, 1) := dk_26 (dk_at dksX0_isYear_0 0 rfl rfl)
theorem dX0_isYear_1 : decode cX0_isYear 1 = .ok (.iconst 0, 1) := dk_3 (dk_at dksX0_isYear_0 1 rfl rfl)
theorem dX0_isYear_2 : decode cX0_isYear 2 = .ok (.bipush 39, 2) := dk_16 39 (dk_at dksX0_isYear_0 2 rfl rfl)
theorem dX0_isYear_4 : decode cX0_isYear 4 = .ok (.invokestatic 5, 3) := dk_184 0 5 (dk_at dksX0_isYear_0 4 rfl rfl)
theorem dX0_isYear_7 : decode cX0_isYear 7 = .ok (.ireturn, 1) := dk_172 (dk_at dksX0_isYear_0 7 rfl rfl)
def dkwX0_isSix_0 : List UInt8 := [26, 3, 8, 184, 0, 5, 172]
abbrev dktX0_isSix_0 : List UInt8 := dkwX0_isSix_0 ++ []
theorem dksX0_isSix_0 : cX0_isSix.data.toList.drop 0 = dktX0_isSix_0 := by decide +kernel
theorem dX0_isSix_0 : decode cX0_isSix 0 = .ok (.iload_n 0, 1) := dk_26 (dk_at dksX0_isSix_0 0 rfl rfl)
theorem dX0_isSix_1 : decode cX0_isSix 1 = .ok (.iconst 0, 1) := dk_3 (dk_at dksX0_isSix_0 1 rfl rfl)
theorem dX0_isSix_2 : decode cX0_isSix 2 = .ok (.iconst 5, 1) := dk_8 (dk_at dksX0_isSix_0 2 rfl rfl)
theorem dX0_isSix_3 : decode cX0_isSix 3 = .ok (.invokestatic 5, 3) := dk_184 0 5 (dk_at dksX0_isSix_0 3 rfl rfl)
theorem dX0_isSix_6 : decode cX0_isSix 6 = .ok (.ireturn, 1) := dk_172 (dk_at dksX0_isSix_0 6 rfl rfl)
def dkwX0_back_1 : List UInt8 := [172]
abbrev dktX0_back_1 : List UInt8 := dkwX0_back_1 ++ []
def dkwX0_back_0 : List UInt8 := [42, 180, 0, 108, 154, 0, 6, 16, 253, 172, 42, 89, 180, 0, 108, 4, 100, 181, 0, 108, 42, 180, 0, 108]
abbrev dktX0_back_0 : List UInt8 := dkwX0_back_0 ++ dktX0_back_1
theorem dksX0_back_0 : cX0_back.data.toList.drop 0 = dktX0_back_0 := by decide +kernel
theorem dksX0_back_1 : cX0_back.data.toList.drop 24 = dktX0_back_1 := dk_seg dksX0_back_0 24 rfl rfl
theorem dX0_back_0 : decode cX0_back 0 = .ok (.aload_n 0, 1) := dk_42 (dk_at dksX0_back_0 0 rfl rfl)
theorem dX0_back_1 : decode cX0_back 1 = .ok (.getfield 108, 3) := dk_180 0 108 (dk_at dksX0_back_0 1 rfl rfl)
theorem dX0_back_4 : decode cX0_back 4 = .ok (.ifCond .ne 6, 3) := dk_154 0 6 (dk_at dksX0_back_0 4 rfl rfl)
theorem dX0_back_7 : decode cX0_back 7 = .ok (.bipush (-3), 2) := dk_16 253 (dk_at dksX0_back_0 7 rfl rfl)
theorem dX0_back_9 : decode cX0_back 9 = .ok (.ireturn, 1) := dk_172 (dk_at dksX0_back_0 9 rfl rfl)
theorem dX0_back_10 : decode cX0_back 10 = .ok (.aload_n 0, 1) := dk_42 (dk_at dksX0_back_0 10 rfl rfl)
theorem dX0_back_11 : decode cX0_back 11 = .ok (.dup, 1) := dk_89 (dk_at dksX0_back_0 11 rfl rfl)
theorem dX0_back_12 : decode cX0_back 12 = .ok (.getfield 108, 3) := dk_180 0 108 (dk_at dksX0_back_0 12 rfl rfl)
theorem dX0_back_15 : decode cX0_back 15 = .ok (.iconst 1, 1) := dk_4 (dk_at dksX0_back_0 15 rfl rfl)
theorem dX0_back_16 : decode cX0_back 16 = .ok (.isub, 1) := dk_100 (dk_at dksX0_back_0 16 rfl rfl)
theorem dX0_back_17 : decode cX0_back 17 = .ok (.putfield 108, 3) := dk_181 0 108 (dk_at dksX0_back_0 17 rfl rfl)
theorem dX0_back_20 : decode cX0_back 20 = .ok (.aload_n 0, 1) := dk_42 (dk_at dksX0_back_0 20 rfl rfl)
theorem dX0_back_21 : decode cX0_back 21 = .ok (.getfield 108, 3) := dk_180 0 108 (dk_at dksX0_back_0 21 rfl rfl)
theorem dX0_back_24 : decode cX0_back 24 = .ok (.ireturn, 1) := dk_172 (dk_at dksX0_back_1 0 rfl rfl)
def dkwX0_read_3 : List UInt8 := [29, 104, 6, 96, 182, 0, 131, 182, 0, 134, 158, 0, 9, 132, 3, 1, 167, 255, 200, 29, 172]
abbrev dktX0_read_3 : List UInt8 := dkwX0_read_3 ++ []
def dkwX0_read_2 : List UInt8 := [104, 182, 0, 131, 44, 7, 29, 104, 4, 96, 182, 0, 131, 44, 7, 29, 104, 5, 96, 182, 0, 131, 44, 7]
abbrev dktX0_read_2 : List UInt8 := dkwX0_read_2 ++ dktX0_read_3
def dkwX0_read_1 : List UInt8 := [42, 4, 182, 0, 126, 172, 3, 62, 7, 29, 104, 6, 96, 44, 182, 0, 129, 162, 0, 50, 42, 44, 7, 29]
abbrev dktX0_read_1 : List UInt8 := dkwX0_read_1 ++ dktX0_read_2
def dkwX0_read_0 : List UInt8 := [27, 184, 0, 114, 154, 0, 6, 16, 254, 172, 42, 180, 0, 117, 27, 50, 77, 44, 180, 0, 121, 199, 0, 9]
abbrev dktX0_read_0 : List UInt8 := dkwX0_read_0 ++ dktX0_read_1
theorem dksX0_read_0 : cX0_read.data.toList.drop 0 = dktX0_read_0 := by decide +kernel
theorem dksX0_read_1 : cX0_read.data.toList.drop 24 = dktX0_read_1 := dk_seg dksX0_read_0 24 rfl rfl
theorem dksX0_read_2 : cX0_read.data.toList.drop 48 = dktX0_read_2 := dk_seg dksX0_read_1 24 rfl rfl
theorem dksX0_read_3 : cX0_read.data.toList.drop 72 = dktX0_read_3 := dk_seg dksX0_read_2 24 rfl rfl
theorem dX0_read_0 : decode cX0_read 0 = .ok (.iload_n 1, 1) := dk_27 (dk_at dksX0_read_0 0 rfl rfl)
theorem dX0_read_1 : decode cX0_read 1 = .ok (.invokestatic 114, 3) := dk_184 0 114 (dk_at dksX0_read_0 1 rfl rfl)
theorem dX0_read_4 : decode cX0_read 4 = .ok (.ifCond .ne 6, 3) := dk_154 0 6 (dk_at dksX0_read_0 4 rfl rfl)
theorem dX0_read_7 : decode cX0_read 7 = .ok (.bipush (-2), 2) := dk_16 254 (dk_at dksX0_read_0 7 rfl rfl)
theorem dX0_read_9 : decode cX0_read 9 = .ok (.ireturn, 1) := dk_172 (dk_at dksX0_read_0 9 rfl rfl)
theorem dX0_read_10 : decode cX0_read 10 = .ok (.aload_n 0, 1) := dk_42 (dk_at dksX0_read_0 10 rfl rfl)
theorem dX0_read_11 : decode cX0_read 11 = .ok (.getfield 117, 3) := dk_180 0 117 (dk_at dksX0_read_0 11 rfl rfl)
theorem dX0_read_14 : decode cX0_read 14 = .ok (.iload_n 1, 1) := dk_27 (dk_at dksX0_read_0 14 rfl rfl)
theorem dX0_read_15 : decode cX0_read 15 = .ok (.aaload, 1) := dk_50 (dk_at dksX0_read_0 15 rfl rfl)
theorem dX0_read_16 : decode cX0_read 16 = .ok (.astore_n 2, 1) := dk_77 (dk_at dksX0_read_0 16 rfl rfl)
theorem dX0_read_17 : decode cX0_read 17 = .ok (.aload_n 2, 1) := dk_44 (dk_at dksX0_read_0 17 rfl rfl)
theorem dX0_read_18 : decode cX0_read 18 = .ok (.getfield 121, 3) := dk_180 0 121 (dk_at dksX0_read_0 18 rfl rfl)
theorem dX0_read_21 : decode cX0_read 21 = .ok (.ifnonnull 9, 3) := dk_199 0 9 (dk_at dksX0_read_0 21 rfl rfl)
theorem dX0_read_24 : decode cX0_read 24 = .ok (.aload_n 0, 1) := dk_42 (dk_at dksX0_read_1 0 rfl rfl)
theorem dX0_read_25 : decode cX0_read 25 = .ok (.iconst 1, 1) := dk_4 (dk_at dksX0_read_1 1 rfl rfl)
theorem dX0_read_26 : decode cX0_read 26 = .ok (.invokevirtual 126, 3) := dk_182 0 126 (dk_at dksX0_read_1 2 rfl rfl)
theorem dX0_read_29 : decode cX0_read 29 = .ok (.ireturn, 1) := dk_172 (dk_at dksX0_read_1 5 rfl rfl)
theorem dX0_read_30 : decode cX0_read 30 = .ok (.iconst 0, 1) := dk_3 (dk_at dksX0_read_1 6 rfl rfl)
theorem dX0_read_31 : decode cX0_read 31 = .ok (.istore_n 3, 1) := dk_62 (dk_at dksX0_read_1 7 rfl rfl)
theorem dX0_read_32 : decode cX0_read 32 = .ok (.iconst 4, 1) := dk_7 (dk_at dksX0_read_1 8 rfl rfl)
theorem dX0_read_33 : decode cX0_read 33 = .ok (.iload_n 3, 1) := dk_29 (dk_at dksX0_read_1 9 rfl rfl)
theorem dX0_read_34 : decode cX0_read 34 = .ok (.imul, 1) := dk_104 (dk_at dksX0_read_1 10 rfl rfl)
theorem dX0_read_35 : decode cX0_read 35 = .ok (.iconst 3, 1) := dk_6 (dk_at dksX0_read_1 11 rfl rfl)
theorem dX0_read_36 : decode cX0_read 36 = .ok (.iadd, 1) := dk_96 (dk_at dksX0_read_1 12 rfl rfl)
theorem dX0_read_37 : decode cX0_read 37 = .ok (.aload_n 2, 1) := dk_44 (dk_at dksX0_read_1 13 rfl rfl)
theorem dX0_read_38 : decode cX0_read 38 = .ok (.invokevirtual 129, 3) := dk_182 0 129 (dk_at dksX0_read_1 14 rfl rfl)
theorem dX0_read_41 : decode cX0_read 41 = .ok (.if_icmp .ge 50, 3) := dk_162 0 50 (dk_at dksX0_read_1 17 rfl rfl)
theorem dX0_read_44 : decode cX0_read 44 = .ok (.aload_n 0, 1) := dk_42 (dk_at dksX0_read_1 20 rfl rfl)
theorem dX0_read_45 : decode cX0_read 45 = .ok (.aload_n 2, 1) := dk_44 (dk_at dksX0_read_1 21 rfl rfl)
theorem dX0_read_46 : decode cX0_read 46 = .ok (.iconst 4, 1) := dk_7 (dk_at dksX0_read_1 22 rfl rfl)
theorem dX0_read_47 : decode cX0_read 47 = .ok (.iload_n 3, 1) := dk_29 (dk_at dksX0_read_1 23 rfl rfl)
theorem dX0_read_48 : decode cX0_read 48 = .ok (.imul, 1) := dk_104 (dk_at dksX0_read_2 0 rfl rfl)
theorem dX0_read_49 : decode cX0_read 49 = .ok (.invokevirtual 131, 3) := dk_182 0 131 (dk_at dksX0_read_2 1 rfl rfl)
theorem dX0_read_52 : decode cX0_read 52 = .ok (.aload_n 2, 1) := dk_44 (dk_at dksX0_read_2 4 rfl rfl)
theorem dX0_read_53 : decode cX0_read 53 = .ok (.iconst 4, 1) := dk_7 (dk_at dksX0_read_2 5 rfl rfl)
theorem dX0_read_54 : decode cX0_read 54 = .ok (.iload_n 3, 1) := dk_29 (dk_at dksX0_read_2 6 rfl rfl)
theorem dX0_read_55 : decode cX0_read 55 = .ok (.imul, 1) := dk_104 (dk_at dksX0_read_2 7 rfl rfl)
theorem dX0_read_56 : decode cX0_read 56 = .ok (.iconst 1, 1) := dk_4 (dk_at dksX0_read_2 8 rfl rfl)
theorem dX0_read_57 : decode cX0_read 57 = .ok (.iadd, 1) := dk_96 (dk_at dksX0_read_2 9 rfl rfl)
theorem dX0_read_58 : decode cX0_read 58 = .ok (.invokevirtual 131, 3) := dk_182 0 131 (dk_at dksX0_read_2 10 rfl rfl)
theorem dX0_read_61 : decode cX0_read 61 = .ok (.aload_n 2, 1) := dk_44 (dk_at dksX0_read_2 13 rfl rfl)
theorem dX0_read_62 : decode cX0_read 62 = .ok (.iconst 4, 1) := dk_7 (dk_at dksX0_read_2 14 rfl rfl)
theorem dX0_read_63 : decode cX0_read 63 = .ok (.iload_n 3, 1) := dk_29 (dk_at dksX0_read_2 15 rfl rfl)
theorem dX0_read_64 : decode cX0_read 64 = .ok (.imul, 1) := dk_104 (dk_at dksX0_read_2 16 rfl rfl)
theorem dX0_read_65 : decode cX0_read 65 = .ok (.iconst 2, 1) := dk_5 (dk_at dksX0_read_2 17 rfl rfl)
theorem dX0_read_66 : decode cX0_read 66 = .ok (.iadd, 1) := dk_96 (dk_at dksX0_read_2 18 rfl rfl)
theorem dX0_read_67 : decode cX0_read 67 = .ok (.invokevirtual 131, 3) := dk_182 0 131 (dk_at dksX0_read_2 19 rfl rfl)
theorem dX0_read_70 : decode cX0_read 70 = .ok (.aload_n 2, 1) := dk_44 (dk_at dksX0_read_2 22 rfl rfl)
theorem dX0_read_71 : decode cX0_read 71 = .ok (.iconst 4, 1) := dk_7 (dk_at dksX0_read_2 23 rfl rfl)
theorem dX0_read_72 : decode cX0_read 72 = .ok (.iload_n 3, 1) := dk_29 (dk_at dksX0_read_3 0 rfl rfl)
theorem dX0_read_73 : decode cX0_read 73 = .ok (.imul, 1) := dk_104 (dk_at dksX0_read_3 1 rfl rfl)
theorem dX0_read_74 : decode cX0_read 74 = .ok (.iconst 3, 1) := dk_6 (dk_at dksX0_read_3 2 rfl rfl)
theorem dX0_read_75 : decode cX0_read 75 = .ok (.iadd, 1) := dk_96 (dk_at dksX0_read_3 3 rfl rfl)
theorem dX0_read_76 : decode cX0_read 76 = .ok (.invokevirtual 131, 3) := dk_182 0 131 (dk_at dksX0_read_3 4 rfl rfl)
theorem dX0_read_79 : decode cX0_read 79 = .ok (.invokevirtual 134, 3) := dk_182 0 134 (dk_at dksX0_read_3 7 rfl rfl)
theorem dX0_read_82 : decode cX0_read 82 = .ok (.ifCond .le 9, 3) := dk_158 0 9 (dk_at dksX0_read_3 10 rfl rfl)
theorem dX0_read_85 : decode cX0_read 85 = .ok (.iinc 3 1, 3) := dk_132 3 1 (dk_at dksX0_read_3 13 rfl rfl)
theorem dX0_read_88 : decode cX0_read 88 = .ok (.goto (-56), 3) := dk_167 255 200 (dk_at dksX0_read_3 16 rfl rfl)
theorem dX0_read_91 : decode cX0_read 91 = .ok (.iload_n 3, 1) := dk_29 (dk_at dksX0_read_3 19 rfl rfl)
theorem dX0_read_92 : decode cX0_read 92 = .ok (.ireturn, 1) := dk_172 (dk_at dksX0_read_3 20 rfl rfl)
def dkwX0_isSheet_0 : List UInt8 := [26, 3, 6, 184, 0, 5, 172]
abbrev dktX0_isSheet_0 : List UInt8 := dkwX0_isSheet_0 ++ []
theorem dksX0_isSheet_0 : cX0_isSheet.data.toList.drop 0 = dktX0_isSheet_0 := by decide +kernel
theorem dX0_isSheet_0 : decode cX0_isSheet 0 = .ok (.iload_n 0, 1) := dk_26 (dk_at dksX0_isSheet_0 0 rfl rfl)
theorem dX0_isSheet_1 : decode cX0_isSheet 1 = .ok (.iconst 0, 1) := dk_3 (dk_at dksX0_isSheet_0 1 rfl rfl)
theorem dX0_isSheet_2 : decode cX0_isSheet 2 = .ok (.iconst 3, 1) := dk_6 (dk_at dksX0_isSheet_0 2 rfl rfl)
theorem dX0_isSheet_3 : decode cX0_isSheet 3 = .ok (.invokestatic 5, 3) := dk_184 0 5 (dk_at dksX0_isSheet_0 3 rfl rfl)
theorem dX0_isSheet_6 : decode cX0_isSheet 6 = .ok (.ireturn, 1) := dk_172 (dk_at dksX0_isSheet_0 6 rfl rfl)
def dkwX0_meets_0 : List UInt8 := [42, 27, 181, 1, 59, 16, 246, 27, 100, 172]
abbrev dktX0_meets_0 : List UInt8 := dkwX0_meets_0 ++ []
theorem dksX0_meets_0 : cX0_meets.data.toList.drop 0 = dktX0_meets_0 := by decide +kernel
theorem dX0_meets_0 : decode cX0_meets 0 = .ok (.aload_n 0, 1) := dk_42 (dk_at dksX0_meets_0 0 rfl rfl)
theorem dX0_meets_1 : decode cX0_meets 1 = .ok (.iload_n 1, 1) := dk_27 (dk_at dksX0_meets_0 1 rfl rfl)
theorem dX0_meets_2 : decode cX0_meets 2 = .ok (.putfield 315, 3) := dk_181 1 59 (dk_at dksX0_meets_0 2 rfl rfl)
theorem dX0_meets_5 : decode cX0_meets 5 = .ok (.bipush (-10), 2) := dk_16 246 (dk_at dksX0_meets_0 5 rfl rfl)
theorem dX0_meets_7 : decode cX0_meets 7 = .ok (.iload_n 1, 1) := dk_27 (dk_at dksX0_meets_0 7 rfl rfl)
theorem dX0_meets_8 : decode cX0_meets 8 = .ok (.isub, 1) := dk_100 (dk_at dksX0_meets_0 8 rfl rfl)
theorem dX0_meets_9 : decode cX0_meets 9 = .ok (.ireturn, 1) := dk_172 (dk_at dksX0_meets_0 9 rfl rfl)
def dkwX0_taken_2 : List UInt8 := [42, 192, 1, 71, 28, 51, 172, 42, 192, 1, 73, 28, 53, 172, 42, 192, 1, 47, 28, 46, 172]
abbrev dktX0_taken_2 : List UInt8 := dkwX0_taken_2 ++ []
def dkwX0_taken_1 : List UInt8 := [171, 0, 0, 0, 0, 0, 41, 0, 0, 0, 2, 0, 0, 0, 0, 0, 0, 0, 27, 0, 0, 0, 1, 0, 0, 0, 34]
abbrev dktX0_taken_1 : List UInt8 := dkwX0_taken_1 ++ dktX0_taken_2
def dkwX0_taken_0 : List UInt8 := [27]
abbrev dktX0_taken_0 : List UInt8 := dkwX0_taken_0 ++ dktX0_taken_1
theorem dksX0_taken_0 : cX0_taken.data.toList.drop 0 = dktX0_taken_0 := by decide +kernel
theorem dksX0_taken_1 : cX0_taken.data.toList.drop 1 = dktX0_taken_1 := dk_seg dksX0_taken_0 1 rfl rfl
theorem dksX0_taken_2 : cX0_taken.data.toList.drop 28 = dktX0_taken_2 := dk_seg dksX0_taken_1 27 rfl rfl
theorem dX0_taken_0 : decode cX0_taken 0 = .ok (.iload_n 1, 1) := dk_27 (dk_at dksX0_taken_0 0 rfl rfl)
theorem dX0_taken_1 : decode cX0_taken 1 = .ok (.lookupswitch 41 #[(0, 27), (1, 34)], 27) := by decide +kernel
theorem dX0_taken_28 : decode cX0_taken 28 = .ok (.aload_n 0, 1) := dk_42 (dk_at dksX0_taken_2 0 rfl rfl)
theorem dX0_taken_29 : decode cX0_taken 29 = .ok (.checkcast 327, 3) := dk_192 1 71 (dk_at dksX0_taken_2 1 rfl rfl)
theorem dX0_taken_32 : decode cX0_taken 32 = .ok (.iload_n 2, 1) := dk_28 (dk_at dksX0_taken_2 4 rfl rfl)
theorem dX0_taken_33 : decode cX0_taken 33 = .ok (.baload, 1) := dk_51 (dk_at dksX0_taken_2 5 rfl rfl)
theorem dX0_taken_34 : decode cX0_taken 34 = .ok (.ireturn, 1) := dk_172 (dk_at dksX0_taken_2 6 rfl rfl)
theorem dX0_taken_35 : decode cX0_taken 35 = .ok (.aload_n 0, 1) := dk_42 (dk_at dksX0_taken_2 7 rfl rfl)
theorem dX0_taken_36 : decode cX0_taken 36 = .ok (.checkcast 329, 3) := dk_192 1 73 (dk_at dksX0_taken_2 8 rfl rfl)
theorem dX0_taken_39 : decode cX0_taken 39 = .ok (.iload_n 2, 1) := dk_28 (dk_at dksX0_taken_2 11 rfl rfl)
theorem dX0_taken_40 : decode cX0_taken 40 = .ok (.saload, 1) := dk_53 (dk_at dksX0_taken_2 12 rfl rfl)
theorem dX0_taken_41 : decode cX0_taken 41 = .ok (.ireturn, 1) := dk_172 (dk_at dksX0_taken_2 13 rfl rfl)
theorem dX0_taken_42 : decode cX0_taken 42 = .ok (.aload_n 0, 1) := dk_42 (dk_at dksX0_taken_2 14 rfl rfl)
theorem dX0_taken_43 : decode cX0_taken 43 = .ok (.checkcast 303, 3) := dk_192 1 47 (dk_at dksX0_taken_2 15 rfl rfl)
theorem dX0_taken_46 : decode cX0_taken 46 = .ok (.iload_n 2, 1) := dk_28 (dk_at dksX0_taken_2 18 rfl rfl)
theorem dX0_taken_47 : decode cX0_taken 47 = .ok (.iaload, 1) := dk_46 (dk_at dksX0_taken_2 19 rfl rfl)
theorem dX0_taken_48 : decode cX0_taken 48 = .ok (.ireturn, 1) := dk_172 (dk_at dksX0_taken_2 20 rfl rfl)
def dkwX0_ear_1 : List UInt8 := [172]
abbrev dktX0_ear_1 : List UInt8 := dkwX0_ear_1 ++ []
def dkwX0_ear_0 : List UInt8 := [27, 3, 16, 12, 184, 0, 5, 154, 0, 6, 16, 254, 172, 42, 180, 0, 138, 61, 42, 27, 181, 0, 138, 28]
abbrev dktX0_ear_0 : List UInt8 := dkwX0_ear_0 ++ dktX0_ear_1
theorem dksX0_ear_0 : cX0_ear.data.toList.drop 0 = dktX0_ear_0 := by decide +kernel
theorem dksX0_ear_1 : cX0_ear.data.toList.drop 24 = dktX0_ear_1 := dk_seg dksX0_ear_0 24 rfl rfl
theorem dX0_ear_0 : decode cX0_ear 0 = .ok (.iload_n 1, 1) := dk_27 (dk_at dksX0_ear_0 0 rfl rfl)
theorem dX0_ear_1 : decode cX0_ear 1 = .ok (.iconst 0, 1) := dk_3 (dk_at dksX0_ear_0 1 rfl rfl)
theorem dX0_ear_2 : decode cX0_ear 2 = .ok (.bipush 12, 2) := dk_16 12 (dk_at dksX0_ear_0 2 rfl rfl)
theorem dX0_ear_4 : decode cX0_ear 4 = .ok (.invokestatic 5, 3) := dk_184 0 5 (dk_at dksX0_ear_0 4 rfl rfl)
theorem dX0_ear_7 : decode cX0_ear 7 = .ok (.ifCond .ne 6, 3) := dk_154 0 6 (dk_at dksX0_ear_0 7 rfl rfl)
theorem dX0_ear_10 : decode cX0_ear 10 = .ok (.bipush (-2), 2) := dk_16 254 (dk_at dksX0_ear_0 10 rfl rfl)
theorem dX0_ear_12 : decode cX0_ear 12 = .ok (.ireturn, 1) := dk_172 (dk_at dksX0_ear_0 12 rfl rfl)
theorem dX0_ear_13 : decode cX0_ear 13 = .ok (.aload_n 0, 1) := dk_42 (dk_at dksX0_ear_0 13 rfl rfl)
theorem dX0_ear_14 : decode cX0_ear 14 = .ok (.getfield 138, 3) := dk_180 0 138 (dk_at dksX0_ear_0 14 rfl rfl)
theorem dX0_ear_17 : decode cX0_ear 17 = .ok (.istore_n 2, 1) := dk_61 (dk_at dksX0_ear_0 17 rfl rfl)
theorem dX0_ear_18 : decode cX0_ear 18 = .ok (.aload_n 0, 1) := dk_42 (dk_at dksX0_ear_0 18 rfl rfl)
theorem dX0_ear_19 : decode cX0_ear 19 = .ok (.iload_n 1, 1) := dk_27 (dk_at dksX0_ear_0 19 rfl rfl)
theorem dX0_ear_20 : decode cX0_ear 20 = .ok (.putfield 138, 3) := dk_181 0 138 (dk_at dksX0_ear_0 20 rfl rfl)
theorem dX0_ear_23 : decode cX0_ear 23 = .ok (.iload_n 2, 1) := dk_28 (dk_at dksX0_ear_0 23 rfl rfl)
theorem dX0_ear_24 : decode cX0_ear 24 = .ok (.ireturn, 1) := dk_172 (dk_at dksX0_ear_1 0 rfl rfl)
def dkwX0_notes_1 : List UInt8 := [153, 0, 13, 42, 27, 28, 29, 182, 0, 200, 167, 0, 5, 16, 254, 172]
abbrev dktX0_notes_1 : List UInt8 := dkwX0_notes_1 ++ []
def dkwX0_notes_0 : List UInt8 := [27, 184, 0, 102, 153, 0, 31, 42, 28, 182, 0, 86, 153, 0, 23, 29, 2, 16, 39, 184, 0, 5]
abbrev dktX0_notes_0 : List UInt8 := dkwX0_notes_0 ++ dktX0_notes_1
theorem dksX0_notes_0 : cX0_notes.data.toList.drop 0 = dktX0_notes_0 := by decide +kernel
theorem dksX0_notes_1 : cX0_notes.data.toList.drop 22 = dktX0_notes_1 := dk_seg dksX0_notes_0 22 rfl rfl
theorem dX0_notes_0 : decode cX0_notes 0 = .ok (.iload_n 1, 1) := dk_27 (dk_at dksX0_notes_0 0 rfl rfl)
theorem dX0_notes_1 : decode cX0_notes 1 = .ok (.invokestatic 102, 3) := dk_184 0 102 (dk_at dksX0_notes_0 1 rfl rfl)
theorem dX0_notes_4 : decode cX0_notes 4 = .ok (.ifCond .eq 31, 3) := dk_153 0 31 (dk_at dksX0_notes_0 4 rfl rfl)
theorem dX0_notes_7 : decode cX0_notes 7 = .ok (.aload_n 0, 1) := dk_42 (dk_at dksX0_notes_0 7 rfl rfl)
theorem dX0_notes_8 : decode cX0_notes 8 = .ok (.iload_n 2, 1) := dk_28 (dk_at dksX0_notes_0 8 rfl rfl)
theorem dX0_notes_9 : decode cX0_notes 9 = .ok (.invokevirtual 86, 3) := dk_182 0 86 (dk_at dksX0_notes_0 9 rfl rfl)
theorem dX0_notes_12 : decode cX0_notes 12 = .ok (.ifCond .eq 23, 3) := dk_153 0 23 (dk_at dksX0_notes_0 12 rfl rfl)
theorem dX0_notes_15 : decode cX0_notes 15 = .ok (.iload_n 3, 1) := dk_29 (dk_at dksX0_notes_0 15 rfl rfl)
theorem dX0_notes_16 : decode cX0_notes 16 = .ok (.iconst (-1), 1) := dk_2 (dk_at dksX0_notes_0 16 rfl rfl)
theorem dX0_notes_17 : decode cX0_notes 17 = .ok (.bipush 39, 2) := dk_16 39 (dk_at dksX0_notes_0 17 rfl rfl)
theorem dX0_notes_19 : decode cX0_notes 19 = .ok (.invokestatic 5, 3) := dk_184 0 5 (dk_at dksX0_notes_0 19 rfl rfl)
theorem dX0_notes_22 : decode cX0_notes 22 = .ok (.ifCond .eq 13, 3) := dk_153 0 13 (dk_at dksX0_notes_1 0 rfl rfl)
theorem dX0_notes_25 : decode cX0_notes 25 = .ok (.aload_n 0, 1) := dk_42 (dk_at dksX0_notes_1 3 rfl rfl)
theorem dX0_notes_26 : decode cX0_notes 26 = .ok (.iload_n 1, 1) := dk_27 (dk_at dksX0_notes_1 4 rfl rfl)
theorem dX0_notes_27 : decode cX0_notes 27 = .ok (.iload_n 2, 1) := dk_28 (dk_at dksX0_notes_1 5 rfl rfl)
theorem dX0_notes_28 : decode cX0_notes 28 = .ok (.iload_n 3, 1) := dk_29 (dk_at dksX0_notes_1 6 rfl rfl)
theorem dX0_notes_29 : decode cX0_notes 29 = .ok (.invokevirtual 200, 3) := dk_182 0 200 (dk_at dksX0_notes_1 7 rfl rfl)
theorem dX0_notes_32 : decode cX0_notes 32 = .ok (.goto 5, 3) := dk_167 0 5 (dk_at dksX0_notes_1 10 rfl rfl)
theorem dX0_notes_35 : decode cX0_notes 35 = .ok (.bipush (-2), 2) := dk_16 254 (dk_at dksX0_notes_1 13 rfl rfl)
theorem dX0_notes_37 : decode cX0_notes 37 = .ok (.ireturn, 1) := dk_172 (dk_at dksX0_notes_1 15 rfl rfl)
def dkwX0_notesOf_0 : List UInt8 := [42, 27, 182, 0, 197, 42, 180, 0, 141, 28, 50, 29, 184, 0, 89, 172]
abbrev dktX0_notesOf_0 : List UInt8 := dkwX0_notesOf_0 ++ []
theorem dksX0_notesOf_0 : cX0_notesOf.data.toList.drop 0 = dktX0_notesOf_0 := by decide +kernel
theorem dX0_notesOf_0 : decode cX0_notesOf 0 = .ok (.aload_n 0, 1) := dk_42 (dk_at dksX0_notesOf_0 0 rfl rfl)
theorem dX0_notesOf_1 : decode cX0_notesOf 1 = .ok (.iload_n 1, 1) := dk_27 (dk_at dksX0_notesOf_0 1 rfl rfl)
theorem dX0_notesOf_2 : decode cX0_notesOf 2 = .ok (.invokevirtual 197, 3) := dk_182 0 197 (dk_at dksX0_notesOf_0 2 rfl rfl)
theorem dX0_notesOf_5 : decode cX0_notesOf 5 = .ok (.aload_n 0, 1) := dk_42 (dk_at dksX0_notesOf_0 5 rfl rfl)
theorem dX0_notesOf_6 : decode cX0_notesOf 6 = .ok (.getfield 141, 3) := dk_180 0 141 (dk_at dksX0_notesOf_0 6 rfl rfl)
theorem dX0_notesOf_9 : decode cX0_notesOf 9 = .ok (.iload_n 2, 1) := dk_28 (dk_at dksX0_notesOf_0 9 rfl rfl)
theorem dX0_notesOf_10 : decode cX0_notesOf 10 = .ok (.aaload, 1) := dk_50 (dk_at dksX0_notesOf_0 10 rfl rfl)
theorem dX0_notesOf_11 : decode cX0_notesOf 11 = .ok (.iload_n 3, 1) := dk_29 (dk_at dksX0_notesOf_0 11 rfl rfl)
theorem dX0_notesOf_12 : decode cX0_notesOf 12 = .ok (.invokestatic 89, 3) := dk_184 0 89 (dk_at dksX0_notesOf_0 12 rfl rfl)
theorem dX0_notesOf_15 : decode cX0_notesOf 15 = .ok (.ireturn, 1) := dk_172 (dk_at dksX0_notesOf_0 15 rfl rfl)
def dkwX0_runs_0 : List UInt8 := [42, 182, 0, 191, 3, 61, 28, 27, 163, 0, 14, 42, 28, 182, 0, 194, 132, 2, 1, 167, 255, 243, 177]
abbrev dktX0_runs_0 : List UInt8 := dkwX0_runs_0 ++ []
theorem dksX0_runs_0 : cX0_runs.data.toList.drop 0 = dktX0_runs_0 := by decide +kernel
theorem dX0_runs_0 : decode cX0_runs 0 = .ok (.aload_n 0, 1) := dk_42 (dk_at dksX0_runs_0 0 rfl rfl)
theorem dX0_runs_1 : decode cX0_runs 1 = .ok (.invokevirtual 191, 3) := dk_182 0 191 (dk_at dksX0_runs_0 1 rfl rfl)
theorem dX0_runs_4 : decode cX0_runs 4 = .ok (.iconst 0, 1) := dk_3 (dk_at dksX0_runs_0 4 rfl rfl)
theorem dX0_runs_5 : decode cX0_runs 5 = .ok (.istore_n 2, 1) := dk_61 (dk_at dksX0_runs_0 5 rfl rfl)
theorem dX0_runs_6 : decode cX0_runs 6 = .ok (.iload_n 2, 1) := dk_28 (dk_at dksX0_runs_0 6 rfl rfl)
theorem dX0_runs_7 : decode cX0_runs 7 = .ok (.iload_n 1, 1) := dk_27 (dk_at dksX0_runs_0 7 rfl rfl)
theorem dX0_runs_8 : decode cX0_runs 8 = .ok (.if_icmp .gt 14, 3) := dk_163 0 14 (dk_at dksX0_runs_0 8 rfl rfl)
theorem dX0_runs_11 : decode cX0_runs 11 = .ok (.aload_n 0, 1) := dk_42 (dk_at dksX0_runs_0 11 rfl rfl)
theorem dX0_runs_12 : decode cX0_runs 12 = .ok (.iload_n 2, 1) := dk_28 (dk_at dksX0_runs_0 12 rfl rfl)
theorem dX0_runs_13 : decode cX0_runs 13 = .ok (.invokevirtual 194, 3) := dk_182 0 194 (dk_at dksX0_runs_0 13 rfl rfl)
theorem dX0_runs_16 : decode cX0_runs 16 = .ok (.iinc 2 1, 3) := dk_132 2 1 (dk_at dksX0_runs_0 16 rfl rfl)
theorem dX0_runs_19 : decode cX0_runs 19 = .ok (.goto (-13), 3) := dk_167 255 243 (dk_at dksX0_runs_0 19 rfl rfl)
theorem dX0_runs_22 : decode cX0_runs 22 = .ok (.return_, 1) := dk_177 (dk_at dksX0_runs_0 22 rfl rfl)
def dkwX0_begins_3 : List UInt8 := [132, 1, 1, 167, 255, 226, 177]
abbrev dktX0_begins_3 : List UInt8 := dkwX0_begins_3 ++ []
def dkwX0_begins_2 : List UInt8 := [162, 0, 30, 42, 180, 0, 151, 27, 3, 84, 42, 180, 0, 155, 27, 3, 84, 42, 180, 0, 158, 27, 3, 79]
abbrev dktX0_begins_2 : List UInt8 := dkwX0_begins_2 ++ dktX0_begins_3
def dkwX0_begins_1 : List UInt8 := [27, 50, 182, 0, 144, 42, 180, 0, 148, 27, 2, 79, 132, 1, 1, 167, 255, 223, 3, 60, 27, 16, 12]
abbrev dktX0_begins_1 : List UInt8 := dkwX0_begins_1 ++ dktX0_begins_2
def dkwX0_begins_0 : List UInt8 := [42, 182, 0, 75, 3, 60, 27, 42, 180, 0, 25, 162, 0, 31, 42, 180, 0, 141, 27, 50, 42, 180, 0, 33]
abbrev dktX0_begins_0 : List UInt8 := dkwX0_begins_0 ++ dktX0_begins_1
theorem dksX0_begins_0 : cX0_begins.data.toList.drop 0 = dktX0_begins_0 := by decide +kernel
theorem dksX0_begins_1 : cX0_begins.data.toList.drop 24 = dktX0_begins_1 := dk_seg dksX0_begins_0 24 rfl rfl
theorem dksX0_begins_2 : cX0_begins.data.toList.drop 47 = dktX0_begins_2 := dk_seg dksX0_begins_1 23 rfl rfl
theorem dksX0_begins_3 : cX0_begins.data.toList.drop 71 = dktX0_begins_3 := dk_seg dksX0_begins_2 24 rfl rfl
theorem dX0_begins_0 : decode cX0_begins 0 = .ok (.aload_n 0, 1) := dk_42 (dk_at dksX0_begins_0 0 rfl rfl)
theorem dX0_begins_1 : decode cX0_begins 1 = .ok (.invokevirtual 75, 3) := dk_182 0 75 (dk_at dksX0_begins_0 1 rfl rfl)
theorem dX0_begins_4 : decode cX0_begins 4 = .ok (.iconst 0, 1) := dk_3 (dk_at dksX0_begins_0 4 rfl rfl)
theorem dX0_begins_5 : decode cX0_begins 5 = .ok (.istore_n 1, 1) := dk_60 (dk_at dksX0_begins_0 5 rfl rfl)
theorem dX0_begins_6 : decode cX0_begins 6 = .ok (.iload_n 1, 1) := dk_27 (dk_at dksX0_begins_0 6 rfl rfl)
theorem dX0_begins_7 : decode cX0_begins 7 = .ok (.aload_n 0, 1) := dk_42 (dk_at dksX0_begins_0 7 rfl rfl)
theorem dX0_begins_8 : decode cX0_begins 8 = .ok (.getfield 25, 3) := dk_180 0 25 (dk_at dksX0_begins_0 8 rfl rfl)
theorem dX0_begins_11 : decode cX0_begins 11 = .ok (.if_icmp .ge 31, 3) := dk_162 0 31 (dk_at dksX0_begins_0 11 rfl rfl)
theorem dX0_begins_14 : decode cX0_begins 14 = .ok (.aload_n 0, 1) := dk_42 (dk_at dksX0_begins_0 14 rfl rfl)
theorem dX0_begins_15 : decode cX0_begins 15 = .ok (.getfield 141, 3) := dk_180 0 141 (dk_at dksX0_begins_0 15 rfl rfl)
theorem dX0_begins_18 : decode cX0_begins 18 = .ok (.iload_n 1, 1) := dk_27 (dk_at dksX0_begins_0 18 rfl rfl)
theorem dX0_begins_19 : decode cX0_begins 19 = .ok (.aaload, 1) := dk_50 (dk_at dksX0_begins_0 19 rfl rfl)
theorem dX0_begins_20 : decode cX0_begins 20 = .ok (.aload_n 0, 1) := dk_42 (dk_at dksX0_begins_0 20 rfl rfl)
theorem dX0_begins_21 : decode cX0_begins 21 = .ok (.getfield 33, 3) := dk_180 0 33 (dk_at dksX0_begins_0 21 rfl rfl)
theorem dX0_begins_24 : decode cX0_begins 24 = .ok (.iload_n 1, 1) := dk_27 (dk_at dksX0_begins_1 0 rfl rfl)
theorem dX0_begins_25 : decode cX0_begins 25 = .ok (.aaload, 1) := dk_50 (dk_at dksX0_begins_1 1 rfl rfl)
theorem dX0_begins_26 : decode cX0_begins 26 = .ok (.invokevirtual 144, 3) := dk_182 0 144 (dk_at dksX0_begins_1 2 rfl rfl)
theorem dX0_begins_29 : decode cX0_begins 29 = .ok (.aload_n 0, 1) := dk_42 (dk_at dksX0_begins_1 5 rfl rfl)
theorem dX0_begins_30 : decode cX0_begins 30 = .ok (.getfield 148, 3) := dk_180 0 148 (dk_at dksX0_begins_1 6 rfl rfl)
theorem dX0_begins_33 : decode cX0_begins 33 = .ok (.iload_n 1, 1) := dk_27 (dk_at dksX0_begins_1 9 rfl rfl)
theorem dX0_begins_34 : decode cX0_begins 34 = .ok (.iconst (-1), 1) := dk_2 (dk_at dksX0_begins_1 10 rfl rfl)
theorem dX0_begins_35 : decode cX0_begins 35 = .ok (.iastore, 1) := dk_79 (dk_at dksX0_begins_1 11 rfl rfl)
theorem dX0_begins_36 : decode cX0_begins 36 = .ok (.iinc 1 1, 3) := dk_132 1 1 (dk_at dksX0_begins_1 12 rfl rfl)
theorem dX0_begins_39 : decode cX0_begins 39 = .ok (.goto (-33), 3) := dk_167 255 223 (dk_at dksX0_begins_1 15 rfl rfl)
theorem dX0_begins_42 : decode cX0_begins 42 = .ok (.iconst 0, 1) := dk_3 (dk_at dksX0_begins_1 18 rfl rfl)
theorem dX0_begins_43 : decode cX0_begins 43 = .ok (.istore_n 1, 1) := dk_60 (dk_at dksX0_begins_1 19 rfl rfl)
theorem dX0_begins_44 : decode cX0_begins 44 = .ok (.iload_n 1, 1) := dk_27 (dk_at dksX0_begins_1 20 rfl rfl)
theorem dX0_begins_45 : decode cX0_begins 45 = .ok (.bipush 12, 2) := dk_16 12 (dk_at dksX0_begins_1 21 rfl rfl)
theorem dX0_begins_47 : decode cX0_begins 47 = .ok (.if_icmp .ge 30, 3) := dk_162 0 30 (dk_at dksX0_begins_2 0 rfl rfl)
theorem dX0_begins_50 : decode cX0_begins 50 = .ok (.aload_n 0, 1) := dk_42 (dk_at dksX0_begins_2 3 rfl rfl)
theorem dX0_begins_51 : decode cX0_begins 51 = .ok (.getfield 151, 3) := dk_180 0 151 (dk_at dksX0_begins_2 4 rfl rfl)
theorem dX0_begins_54 : decode cX0_begins 54 = .ok (.iload_n 1, 1) := dk_27 (dk_at dksX0_begins_2 7 rfl rfl)
theorem dX0_begins_55 : decode cX0_begins 55 = .ok (.iconst 0, 1) := dk_3 (dk_at dksX0_begins_2 8 rfl rfl)
theorem dX0_begins_56 : decode cX0_begins 56 = .ok (.bastore, 1) := dk_84 (dk_at dksX0_begins_2 9 rfl rfl)
theorem dX0_begins_57 : decode cX0_begins 57 = .ok (.aload_n 0, 1) := dk_42 (dk_at dksX0_begins_2 10 rfl rfl)
theorem dX0_begins_58 : decode cX0_begins 58 = .ok (.getfield 155, 3) := dk_180 0 155 (dk_at dksX0_begins_2 11 rfl rfl)
theorem dX0_begins_61 : decode cX0_begins 61 = .ok (.iload_n 1, 1) := dk_27 (dk_at dksX0_begins_2 14 rfl rfl)
theorem dX0_begins_62 : decode cX0_begins 62 = .ok (.iconst 0, 1) := dk_3 (dk_at dksX0_begins_2 15 rfl rfl)
theorem dX0_begins_63 : decode cX0_begins 63 = .ok (.bastore, 1) := dk_84 (dk_at dksX0_begins_2 16 rfl rfl)
theorem dX0_begins_64 : decode cX0_begins 64 = .ok (.aload_n 0, 1) := dk_42 (dk_at dksX0_begins_2 17 rfl rfl)
theorem dX0_begins_65 : decode cX0_begins 65 = .ok (.getfield 158, 3) := dk_180 0 158 (dk_at dksX0_begins_2 18 rfl rfl)
theorem dX0_begins_68 : decode cX0_begins 68 = .ok (.iload_n 1, 1) := dk_27 (dk_at dksX0_begins_2 21 rfl rfl)
theorem dX0_begins_69 : decode cX0_begins 69 = .ok (.iconst 0, 1) := dk_3 (dk_at dksX0_begins_2 22 rfl rfl)
theorem dX0_begins_70 : decode cX0_begins 70 = .ok (.iastore, 1) := dk_79 (dk_at dksX0_begins_2 23 rfl rfl)
theorem dX0_begins_71 : decode cX0_begins 71 = .ok (.iinc 1 1, 3) := dk_132 1 1 (dk_at dksX0_begins_3 0 rfl rfl)
theorem dX0_begins_74 : decode cX0_begins 74 = .ok (.goto (-30), 3) := dk_167 255 226 (dk_at dksX0_begins_3 3 rfl rfl)
theorem dX0_begins_77 : decode cX0_begins 77 = .ok (.return_, 1) := dk_177 (dk_at dksX0_begins_3 6 rfl rfl)
def dkwX0_goesBy_4 : List UInt8 := [132, 2, 1, 167, 255, 169, 177]
abbrev dktX0_goesBy_4 : List UInt8 := dkwX0_goesBy_4 ++ []
def dkwX0_goesBy_3 : List UInt8 := [180, 0, 111, 6, 50, 42, 180, 0, 148, 28, 46, 46, 96, 27, 4, 96, 160, 0, 8, 42, 28, 182, 0, 188]
abbrev dktX0_goesBy_3 : List UInt8 := dkwX0_goesBy_3 ++ dktX0_goesBy_4
def dkwX0_goesBy_2 : List UInt8 := [180, 0, 141, 28, 50, 182, 0, 184, 42, 180, 0, 111, 3, 50, 42, 180, 0, 148, 28, 46, 46, 42]
abbrev dktX0_goesBy_2 : List UInt8 := dkwX0_goesBy_2 ++ dktX0_goesBy_3
def dkwX0_goesBy_1 : List UInt8 := [159, 0, 69, 42, 42, 180, 0, 49, 42, 180, 0, 111, 5, 50, 42, 180, 0, 148, 28, 46, 46, 50, 42]
abbrev dktX0_goesBy_1 : List UInt8 := dkwX0_goesBy_1 ++ dktX0_goesBy_2
def dkwX0_goesBy_0 : List UInt8 := [42, 27, 182, 0, 181, 3, 61, 28, 42, 180, 0, 25, 162, 0, 85, 42, 180, 0, 148, 28, 46, 2]
abbrev dktX0_goesBy_0 : List UInt8 := dkwX0_goesBy_0 ++ dktX0_goesBy_1
theorem dksX0_goesBy_0 : cX0_goesBy.data.toList.drop 0 = dktX0_goesBy_0 := by decide +kernel
theorem dksX0_goesBy_1 : cX0_goesBy.data.toList.drop 22 = dktX0_goesBy_1 := dk_seg dksX0_goesBy_0 22 rfl rfl
theorem dksX0_goesBy_2 : cX0_goesBy.data.toList.drop 45 = dktX0_goesBy_2 := dk_seg dksX0_goesBy_1 23 rfl rfl
theorem dksX0_goesBy_3 : cX0_goesBy.data.toList.drop 67 = dktX0_goesBy_3 := dk_seg dksX0_goesBy_2 22 rfl rfl
theorem dksX0_goesBy_4 : cX0_goesBy.data.toList.drop 91 = dktX0_goesBy_4 := dk_seg dksX0_goesBy_3 24 rfl rfl
theorem dX0_goesBy_0 : decode cX0_goesBy 0 = .ok (.aload_n 0, 1) := dk_42 (dk_at dksX0_goesBy_0 0 rfl rfl)
theorem dX0_goesBy_1 : decode cX0_goesBy 1 = .ok (.iload_n 1, 1) := dk_27 (dk_at dksX0_goesBy_0 1 rfl rfl)
theorem dX0_goesBy_2 : decode cX0_goesBy 2 = .ok (.invokevirtual 181, 3) := dk_182 0 181 (dk_at dksX0_goesBy_0 2 rfl rfl)
theorem dX0_goesBy_5 : decode cX0_goesBy 5 = .ok (.iconst 0, 1) := dk_3 (dk_at dksX0_goesBy_0 5 rfl rfl)
theorem dX0_goesBy_6 : decode cX0_goesBy 6 = .ok (.istore_n 2, 1) := dk_61 (dk_at dksX0_goesBy_0 6 rfl rfl)
theorem dX0_goesBy_7 : decode cX0_goesBy 7 = .ok (.iload_n 2, 1) := dk_28 (dk_at dksX0_goesBy_0 7 rfl rfl)
theorem dX0_goesBy_8 : decode cX0_goesBy 8 = .ok (.aload_n 0, 1) := dk_42 (dk_at dksX0_goesBy_0 8 rfl rfl)
theorem dX0_goesBy_9 : decode cX0_goesBy 9 = .ok (.getfield 25, 3) := dk_180 0 25 (dk_at dksX0_goesBy_0 9 rfl rfl)
theorem dX0_goesBy_12 : decode cX0_goesBy 12 = .ok (.if_icmp .ge 85, 3) := dk_162 0 85 (dk_at dksX0_goesBy_0 12 rfl rfl)
theorem dX0_goesBy_15 : decode cX0_goesBy 15 = .ok (.aload_n 0, 1) := dk_42 (dk_at dksX0_goesBy_0 15 rfl rfl)
theorem dX0_goesBy_16 : decode cX0_goesBy 16 = .ok (.getfield 148, 3) := dk_180 0 148 (dk_at dksX0_goesBy_0 16 rfl rfl)
theorem dX0_goesBy_19 : decode cX0_goesBy 19 = .ok (.iload_n 2, 1) := dk_28 (dk_at dksX0_goesBy_0 19 rfl rfl)
theorem dX0_goesBy_20 : decode cX0_goesBy 20 = .ok (.iaload, 1) := dk_46 (dk_at dksX0_goesBy_0 20 rfl rfl)
theorem dX0_goesBy_21 : decode cX0_goesBy 21 = .ok (.iconst (-1), 1) := dk_2 (dk_at dksX0_goesBy_0 21 rfl rfl)
theorem dX0_goesBy_22 : decode cX0_goesBy 22 = .ok (.if_icmp .eq 69, 3) := dk_159 0 69 (dk_at dksX0_goesBy_1 0 rfl rfl)
theorem dX0_goesBy_25 : decode cX0_goesBy 25 = .ok (.aload_n 0, 1) := dk_42 (dk_at dksX0_goesBy_1 3 rfl rfl)
theorem dX0_goesBy_26 : decode cX0_goesBy 26 = .ok (.aload_n 0, 1) := dk_42 (dk_at dksX0_goesBy_1 4 rfl rfl)
theorem dX0_goesBy_27 : decode cX0_goesBy 27 = .ok (.getfield 49, 3) := dk_180 0 49 (dk_at dksX0_goesBy_1 5 rfl rfl)
theorem dX0_goesBy_30 : decode cX0_goesBy 30 = .ok (.aload_n 0, 1) := dk_42 (dk_at dksX0_goesBy_1 8 rfl rfl)
theorem dX0_goesBy_31 : decode cX0_goesBy 31 = .ok (.getfield 111, 3) := dk_180 0 111 (dk_at dksX0_goesBy_1 9 rfl rfl)
theorem dX0_goesBy_34 : decode cX0_goesBy 34 = .ok (.iconst 2, 1) := dk_5 (dk_at dksX0_goesBy_1 12 rfl rfl)
theorem dX0_goesBy_35 : decode cX0_goesBy 35 = .ok (.aaload, 1) := dk_50 (dk_at dksX0_goesBy_1 13 rfl rfl)
theorem dX0_goesBy_36 : decode cX0_goesBy 36 = .ok (.aload_n 0, 1) := dk_42 (dk_at dksX0_goesBy_1 14 rfl rfl)
theorem dX0_goesBy_37 : decode cX0_goesBy 37 = .ok (.getfield 148, 3) := dk_180 0 148 (dk_at dksX0_goesBy_1 15 rfl rfl)
theorem dX0_goesBy_40 : decode cX0_goesBy 40 = .ok (.iload_n 2, 1) := dk_28 (dk_at dksX0_goesBy_1 18 rfl rfl)
theorem dX0_goesBy_41 : decode cX0_goesBy 41 = .ok (.iaload, 1) := dk_46 (dk_at dksX0_goesBy_1 19 rfl rfl)
theorem dX0_goesBy_42 : decode cX0_goesBy 42 = .ok (.iaload, 1) := dk_46 (dk_at dksX0_goesBy_1 20 rfl rfl)
theorem dX0_goesBy_43 : decode cX0_goesBy 43 = .ok (.aaload, 1) := dk_50 (dk_at dksX0_goesBy_1 21 rfl rfl)
theorem dX0_goesBy_44 : decode cX0_goesBy 44 = .ok (.aload_n 0, 1) := dk_42 (dk_at dksX0_goesBy_1 22 rfl rfl)
theorem dX0_goesBy_45 : decode cX0_goesBy 45 = .ok (.getfield 141, 3) := dk_180 0 141 (dk_at dksX0_goesBy_2 0 rfl rfl)
theorem dX0_goesBy_48 : decode cX0_goesBy 48 = .ok (.iload_n 2, 1) := dk_28 (dk_at dksX0_goesBy_2 3 rfl rfl)
theorem dX0_goesBy_49 : decode cX0_goesBy 49 = .ok (.aaload, 1) := dk_50 (dk_at dksX0_goesBy_2 4 rfl rfl)
theorem dX0_goesBy_50 : decode cX0_goesBy 50 = .ok (.invokevirtual 184, 3) := dk_182 0 184 (dk_at dksX0_goesBy_2 5 rfl rfl)
theorem dX0_goesBy_53 : decode cX0_goesBy 53 = .ok (.aload_n 0, 1) := dk_42 (dk_at dksX0_goesBy_2 8 rfl rfl)
theorem dX0_goesBy_54 : decode cX0_goesBy 54 = .ok (.getfield 111, 3) := dk_180 0 111 (dk_at dksX0_goesBy_2 9 rfl rfl)
theorem dX0_goesBy_57 : decode cX0_goesBy 57 = .ok (.iconst 0, 1) := dk_3 (dk_at dksX0_goesBy_2 12 rfl rfl)
theorem dX0_goesBy_58 : decode cX0_goesBy 58 = .ok (.aaload, 1) := dk_50 (dk_at dksX0_goesBy_2 13 rfl rfl)
theorem dX0_goesBy_59 : decode cX0_goesBy 59 = .ok (.aload_n 0, 1) := dk_42 (dk_at dksX0_goesBy_2 14 rfl rfl)
theorem dX0_goesBy_60 : decode cX0_goesBy 60 = .ok (.getfield 148, 3) := dk_180 0 148 (dk_at dksX0_goesBy_2 15 rfl rfl)
theorem dX0_goesBy_63 : decode cX0_goesBy 63 = .ok (.iload_n 2, 1) := dk_28 (dk_at dksX0_goesBy_2 18 rfl rfl)
theorem dX0_goesBy_64 : decode cX0_goesBy 64 = .ok (.iaload, 1) := dk_46 (dk_at dksX0_goesBy_2 19 rfl rfl)
theorem dX0_goesBy_65 : decode cX0_goesBy 65 = .ok (.iaload, 1) := dk_46 (dk_at dksX0_goesBy_2 20 rfl rfl)
theorem dX0_goesBy_66 : decode cX0_goesBy 66 = .ok (.aload_n 0, 1) := dk_42 (dk_at dksX0_goesBy_2 21 rfl rfl)
theorem dX0_goesBy_67 : decode cX0_goesBy 67 = .ok (.getfield 111, 3) := dk_180 0 111 (dk_at dksX0_goesBy_3 0 rfl rfl)
theorem dX0_goesBy_70 : decode cX0_goesBy 70 = .ok (.iconst 3, 1) := dk_6 (dk_at dksX0_goesBy_3 3 rfl rfl)
theorem dX0_goesBy_71 : decode cX0_goesBy 71 = .ok (.aaload, 1) := dk_50 (dk_at dksX0_goesBy_3 4 rfl rfl)
theorem dX0_goesBy_72 : decode cX0_goesBy 72 = .ok (.aload_n 0, 1) := dk_42 (dk_at dksX0_goesBy_3 5 rfl rfl)
theorem dX0_goesBy_73 : decode cX0_goesBy 73 = .ok (.getfield 148, 3) := dk_180 0 148 (dk_at dksX0_goesBy_3 6 rfl rfl)
theorem dX0_goesBy_76 : decode cX0_goesBy 76 = .ok (.iload_n 2, 1) := dk_28 (dk_at dksX0_goesBy_3 9 rfl rfl)
theorem dX0_goesBy_77 : decode cX0_goesBy 77 = .ok (.iaload, 1) := dk_46 (dk_at dksX0_goesBy_3 10 rfl rfl)
theorem dX0_goesBy_78 : decode cX0_goesBy 78 = .ok (.iaload, 1) := dk_46 (dk_at dksX0_goesBy_3 11 rfl rfl)
theorem dX0_goesBy_79 : decode cX0_goesBy 79 = .ok (.iadd, 1) := dk_96 (dk_at dksX0_goesBy_3 12 rfl rfl)
theorem dX0_goesBy_80 : decode cX0_goesBy 80 = .ok (.iload_n 1, 1) := dk_27 (dk_at dksX0_goesBy_3 13 rfl rfl)
theorem dX0_goesBy_81 : decode cX0_goesBy 81 = .ok (.iconst 1, 1) := dk_4 (dk_at dksX0_goesBy_3 14 rfl rfl)
theorem dX0_goesBy_82 : decode cX0_goesBy 82 = .ok (.iadd, 1) := dk_96 (dk_at dksX0_goesBy_3 15 rfl rfl)
theorem dX0_goesBy_83 : decode cX0_goesBy 83 = .ok (.if_icmp .ne 8, 3) := dk_160 0 8 (dk_at dksX0_goesBy_3 16 rfl rfl)
theorem dX0_goesBy_86 : decode cX0_goesBy 86 = .ok (.aload_n 0, 1) := dk_42 (dk_at dksX0_goesBy_3 19 rfl rfl)
theorem dX0_goesBy_87 : decode cX0_goesBy 87 = .ok (.iload_n 2, 1) := dk_28 (dk_at dksX0_goesBy_3 20 rfl rfl)
theorem dX0_goesBy_88 : decode cX0_goesBy 88 = .ok (.invokevirtual 188, 3) := dk_182 0 188 (dk_at dksX0_goesBy_3 21 rfl rfl)
theorem dX0_goesBy_91 : decode cX0_goesBy 91 = .ok (.iinc 2 1, 3) := dk_132 2 1 (dk_at dksX0_goesBy_4 0 rfl rfl)
theorem dX0_goesBy_94 : decode cX0_goesBy 94 = .ok (.goto (-87), 3) := dk_167 255 169 (dk_at dksX0_goesBy_4 3 rfl rfl)
theorem dX0_goesBy_97 : decode cX0_goesBy 97 = .ok (.return_, 1) := dk_177 (dk_at dksX0_goesBy_4 6 rfl rfl)
def dkwX0_lends_5 : List UInt8 := [50, 42, 180, 0, 141, 29, 50, 182, 0, 144, 132, 2, 1, 167, 255, 128, 177]
abbrev dktX0_lends_5 : List UInt8 := dkwX0_lends_5 ++ []
def dkwX0_lends_4 : List UInt8 := [42, 180, 0, 111, 3, 50, 28, 46, 27, 160, 0, 25, 42, 180, 0, 148, 29, 28, 79, 42, 180, 0, 169, 29]
abbrev dktX0_lends_4 : List UInt8 := dkwX0_lends_4 ++ dktX0_lends_5
def dkwX0_lends_3 : List UInt8 := [180, 0, 148, 29, 46, 2, 160, 0, 7, 4, 167, 0, 4, 3, 84, 42, 180, 0, 151, 28, 51, 153, 0, 37]
abbrev dktX0_lends_3 : List UInt8 := dkwX0_lends_3 ++ dktX0_lends_4
def dkwX0_lends_2 : List UInt8 := [180, 0, 25, 162, 0, 32, 42, 180, 0, 111, 5, 50, 28, 46, 42, 180, 0, 46, 162, 0, 17, 42]
abbrev dktX0_lends_2 : List UInt8 := dkwX0_lends_2 ++ dktX0_lends_3
def dkwX0_lends_1 : List UInt8 := [42, 180, 0, 151, 28, 51, 154, 0, 48, 42, 180, 0, 111, 3, 50, 28, 46, 27, 160, 0, 40, 29, 42]
abbrev dktX0_lends_1 : List UInt8 := dkwX0_lends_1 ++ dktX0_lends_2
def dkwX0_lends_0 : List UInt8 := [3, 61, 28, 42, 180, 0, 108, 162, 0, 126, 42, 180, 0, 111, 4, 50, 28, 46, 62, 42, 180, 0, 151, 28]
abbrev dktX0_lends_0 : List UInt8 := dkwX0_lends_0 ++ dktX0_lends_1
theorem dksX0_lends_0 : cX0_lends.data.toList.drop 0 = dktX0_lends_0 := by decide +kernel
theorem dksX0_lends_1 : cX0_lends.data.toList.drop 24 = dktX0_lends_1 := dk_seg dksX0_lends_0 24 rfl rfl
theorem dksX0_lends_2 : cX0_lends.data.toList.drop 47 = dktX0_lends_2 := dk_seg dksX0_lends_1 23 rfl rfl
theorem dksX0_lends_3 : cX0_lends.data.toList.drop 69 = dktX0_lends_3 := dk_seg dksX0_lends_2 22 rfl rfl
theorem dksX0_lends_4 : cX0_lends.data.toList.drop 93 = dktX0_lends_4 := dk_seg dksX0_lends_3 24 rfl rfl
theorem dksX0_lends_5 : cX0_lends.data.toList.drop 117 = dktX0_lends_5 := dk_seg dksX0_lends_4 24 rfl rfl
theorem dX0_lends_0 : decode cX0_lends 0 = .ok (.iconst 0, 1) := dk_3 (dk_at dksX0_lends_0 0 rfl rfl)
theorem dX0_lends_1 : decode cX0_lends 1 = .ok (.istore_n 2, 1) := dk_61 (dk_at dksX0_lends_0 1 rfl rfl)
theorem dX0_lends_2 : decode cX0_lends 2 = .ok (.iload_n 2, 1) := dk_28 (dk_at dksX0_lends_0 2 rfl rfl)
theorem dX0_lends_3 : decode cX0_lends 3 = .ok (.aload_n 0, 1) := dk_42 (dk_at dksX0_lends_0 3 rfl rfl)
theorem dX0_lends_4 : decode cX0_lends 4 = .ok (.getfield 108, 3) := dk_180 0 108 (dk_at dksX0_lends_0 4 rfl rfl)
theorem dX0_lends_7 : decode cX0_lends 7 = .ok (.if_icmp .ge 126, 3) := dk_162 0 126 (dk_at dksX0_lends_0 7 rfl rfl)
theorem dX0_lends_10 : decode cX0_lends 10 = .ok (.aload_n 0, 1) := dk_42 (dk_at dksX0_lends_0 10 rfl rfl)
theorem dX0_lends_11 : decode cX0_lends 11 = .ok (.getfield 111, 3) := dk_180 0 111 (dk_at dksX0_lends_0 11 rfl rfl)
theorem dX0_lends_14 : decode cX0_lends 14 = .ok (.iconst 1, 1) := dk_4 (dk_at dksX0_lends_0 14 rfl rfl)
theorem dX0_lends_15 : decode cX0_lends 15 = .ok (.aaload, 1) := dk_50 (dk_at dksX0_lends_0 15 rfl rfl)
theorem dX0_lends_16 : decode cX0_lends 16 = .ok (.iload_n 2, 1) := dk_28 (dk_at dksX0_lends_0 16 rfl rfl)
theorem dX0_lends_17 : decode cX0_lends 17 = .ok (.iaload, 1) := dk_46 (dk_at dksX0_lends_0 17 rfl rfl)
theorem dX0_lends_18 : decode cX0_lends 18 = .ok (.istore_n 3, 1) := dk_62 (dk_at dksX0_lends_0 18 rfl rfl)
theorem dX0_lends_19 : decode cX0_lends 19 = .ok (.aload_n 0, 1) := dk_42 (dk_at dksX0_lends_0 19 rfl rfl)
theorem dX0_lends_20 : decode cX0_lends 20 = .ok (.getfield 151, 3) := dk_180 0 151 (dk_at dksX0_lends_0 20 rfl rfl)
theorem dX0_lends_23 : decode cX0_lends 23 = .ok (.iload_n 2, 1) := dk_28 (dk_at dksX0_lends_0 23 rfl rfl)
theorem dX0_lends_24 : decode cX0_lends 24 = .ok (.aload_n 0, 1) := dk_42 (dk_at dksX0_lends_1 0 rfl rfl)
theorem dX0_lends_25 : decode cX0_lends 25 = .ok (.getfield 151, 3) := dk_180 0 151 (dk_at dksX0_lends_1 1 rfl rfl)
theorem dX0_lends_28 : decode cX0_lends 28 = .ok (.iload_n 2, 1) := dk_28 (dk_at dksX0_lends_1 4 rfl rfl)
theorem dX0_lends_29 : decode cX0_lends 29 = .ok (.baload, 1) := dk_51 (dk_at dksX0_lends_1 5 rfl rfl)
theorem dX0_lends_30 : decode cX0_lends 30 = .ok (.ifCond .ne 48, 3) := dk_154 0 48 (dk_at dksX0_lends_1 6 rfl rfl)
theorem dX0_lends_33 : decode cX0_lends 33 = .ok (.aload_n 0, 1) := dk_42 (dk_at dksX0_lends_1 9 rfl rfl)
theorem dX0_lends_34 : decode cX0_lends 34 = .ok (.getfield 111, 3) := dk_180 0 111 (dk_at dksX0_lends_1 10 rfl rfl)
theorem dX0_lends_37 : decode cX0_lends 37 = .ok (.iconst 0, 1) := dk_3 (dk_at dksX0_lends_1 13 rfl rfl)
theorem dX0_lends_38 : decode cX0_lends 38 = .ok (.aaload, 1) := dk_50 (dk_at dksX0_lends_1 14 rfl rfl)
theorem dX0_lends_39 : decode cX0_lends 39 = .ok (.iload_n 2, 1) := dk_28 (dk_at dksX0_lends_1 15 rfl rfl)
theorem dX0_lends_40 : decode cX0_lends 40 = .ok (.iaload, 1) := dk_46 (dk_at dksX0_lends_1 16 rfl rfl)
theorem dX0_lends_41 : decode cX0_lends 41 = .ok (.iload_n 1, 1) := dk_27 (dk_at dksX0_lends_1 17 rfl rfl)
theorem dX0_lends_42 : decode cX0_lends 42 = .ok (.if_icmp .ne 40, 3) := dk_160 0 40 (dk_at dksX0_lends_1 18 rfl rfl)
theorem dX0_lends_45 : decode cX0_lends 45 = .ok (.iload_n 3, 1) := dk_29 (dk_at dksX0_lends_1 21 rfl rfl)
theorem dX0_lends_46 : decode cX0_lends 46 = .ok (.aload_n 0, 1) := dk_42 (dk_at dksX0_lends_1 22 rfl rfl)
theorem dX0_lends_47 : decode cX0_lends 47 = .ok (.getfield 25, 3) := dk_180 0 25 (dk_at dksX0_lends_2 0 rfl rfl)
theorem dX0_lends_50 : decode cX0_lends 50 = .ok (.if_icmp .ge 32, 3) := dk_162 0 32 (dk_at dksX0_lends_2 3 rfl rfl)
theorem dX0_lends_53 : decode cX0_lends 53 = .ok (.aload_n 0, 1) := dk_42 (dk_at dksX0_lends_2 6 rfl rfl)
theorem dX0_lends_54 : decode cX0_lends 54 = .ok (.getfield 111, 3) := dk_180 0 111 (dk_at dksX0_lends_2 7 rfl rfl)
theorem dX0_lends_57 : decode cX0_lends 57 = .ok (.iconst 2, 1) := dk_5 (dk_at dksX0_lends_2 10 rfl rfl)
theorem dX0_lends_58 : decode cX0_lends 58 = .ok (.aaload, 1) := dk_50 (dk_at dksX0_lends_2 11 rfl rfl)
theorem dX0_lends_59 : decode cX0_lends 59 = .ok (.iload_n 2, 1) := dk_28 (dk_at dksX0_lends_2 12 rfl rfl)
theorem dX0_lends_60 : decode cX0_lends 60 = .ok (.iaload, 1) := dk_46 (dk_at dksX0_lends_2 13 rfl rfl)
theorem dX0_lends_61 : decode cX0_lends 61 = .ok (.aload_n 0, 1) := dk_42 (dk_at dksX0_lends_2 14 rfl rfl)
theorem dX0_lends_62 : decode cX0_lends 62 = .ok (.getfield 46, 3) := dk_180 0 46 (dk_at dksX0_lends_2 15 rfl rfl)
theorem dX0_lends_65 : decode cX0_lends 65 = .ok (.if_icmp .ge 17, 3) := dk_162 0 17 (dk_at dksX0_lends_2 18 rfl rfl)
theorem dX0_lends_68 : decode cX0_lends 68 = .ok (.aload_n 0, 1) := dk_42 (dk_at dksX0_lends_2 21 rfl rfl)
theorem dX0_lends_69 : decode cX0_lends 69 = .ok (.getfield 148, 3) := dk_180 0 148 (dk_at dksX0_lends_3 0 rfl rfl)
theorem dX0_lends_72 : decode cX0_lends 72 = .ok (.iload_n 3, 1) := dk_29 (dk_at dksX0_lends_3 3 rfl rfl)
theorem dX0_lends_73 : decode cX0_lends 73 = .ok (.iaload, 1) := dk_46 (dk_at dksX0_lends_3 4 rfl rfl)
theorem dX0_lends_74 : decode cX0_lends 74 = .ok (.iconst (-1), 1) := dk_2 (dk_at dksX0_lends_3 5 rfl rfl)
theorem dX0_lends_75 : decode cX0_lends 75 = .ok (.if_icmp .ne 7, 3) := dk_160 0 7 (dk_at dksX0_lends_3 6 rfl rfl)
theorem dX0_lends_78 : decode cX0_lends 78 = .ok (.iconst 1, 1) := dk_4 (dk_at dksX0_lends_3 9 rfl rfl)
theorem dX0_lends_79 : decode cX0_lends 79 = .ok (.goto 4, 3) := dk_167 0 4 (dk_at dksX0_lends_3 10 rfl rfl)
theorem dX0_lends_82 : decode cX0_lends 82 = .ok (.iconst 0, 1) := dk_3 (dk_at dksX0_lends_3 13 rfl rfl)
theorem dX0_lends_83 : decode cX0_lends 83 = .ok (.bastore, 1) := dk_84 (dk_at dksX0_lends_3 14 rfl rfl)
theorem dX0_lends_84 : decode cX0_lends 84 = .ok (.aload_n 0, 1) := dk_42 (dk_at dksX0_lends_3 15 rfl rfl)
theorem dX0_lends_85 : decode cX0_lends 85 = .ok (.getfield 151, 3) := dk_180 0 151 (dk_at dksX0_lends_3 16 rfl rfl)
theorem dX0_lends_88 : decode cX0_lends 88 = .ok (.iload_n 2, 1) := dk_28 (dk_at dksX0_lends_3 19 rfl rfl)
theorem dX0_lends_89 : decode cX0_lends 89 = .ok (.baload, 1) := dk_51 (dk_at dksX0_lends_3 20 rfl rfl)
theorem dX0_lends_90 : decode cX0_lends 90 = .ok (.ifCond .eq 37, 3) := dk_153 0 37 (dk_at dksX0_lends_3 21 rfl rfl)
theorem dX0_lends_93 : decode cX0_lends 93 = .ok (.aload_n 0, 1) := dk_42 (dk_at dksX0_lends_4 0 rfl rfl)
theorem dX0_lends_94 : decode cX0_lends 94 = .ok (.getfield 111, 3) := dk_180 0 111 (dk_at dksX0_lends_4 1 rfl rfl)
theorem dX0_lends_97 : decode cX0_lends 97 = .ok (.iconst 0, 1) := dk_3 (dk_at dksX0_lends_4 4 rfl rfl)
theorem dX0_lends_98 : decode cX0_lends 98 = .ok (.aaload, 1) := dk_50 (dk_at dksX0_lends_4 5 rfl rfl)
theorem dX0_lends_99 : decode cX0_lends 99 = .ok (.iload_n 2, 1) := dk_28 (dk_at dksX0_lends_4 6 rfl rfl)
theorem dX0_lends_100 : decode cX0_lends 100 = .ok (.iaload, 1) := dk_46 (dk_at dksX0_lends_4 7 rfl rfl)
theorem dX0_lends_101 : decode cX0_lends 101 = .ok (.iload_n 1, 1) := dk_27 (dk_at dksX0_lends_4 8 rfl rfl)
theorem dX0_lends_102 : decode cX0_lends 102 = .ok (.if_icmp .ne 25, 3) := dk_160 0 25 (dk_at dksX0_lends_4 9 rfl rfl)
theorem dX0_lends_105 : decode cX0_lends 105 = .ok (.aload_n 0, 1) := dk_42 (dk_at dksX0_lends_4 12 rfl rfl)
theorem dX0_lends_106 : decode cX0_lends 106 = .ok (.getfield 148, 3) := dk_180 0 148 (dk_at dksX0_lends_4 13 rfl rfl)
theorem dX0_lends_109 : decode cX0_lends 109 = .ok (.iload_n 3, 1) := dk_29 (dk_at dksX0_lends_4 16 rfl rfl)
theorem dX0_lends_110 : decode cX0_lends 110 = .ok (.iload_n 2, 1) := dk_28 (dk_at dksX0_lends_4 17 rfl rfl)
theorem dX0_lends_111 : decode cX0_lends 111 = .ok (.iastore, 1) := dk_79 (dk_at dksX0_lends_4 18 rfl rfl)
theorem dX0_lends_112 : decode cX0_lends 112 = .ok (.aload_n 0, 1) := dk_42 (dk_at dksX0_lends_4 19 rfl rfl)
theorem dX0_lends_113 : decode cX0_lends 113 = .ok (.getfield 169, 3) := dk_180 0 169 (dk_at dksX0_lends_4 20 rfl rfl)
theorem dX0_lends_116 : decode cX0_lends 116 = .ok (.iload_n 3, 1) := dk_29 (dk_at dksX0_lends_4 23 rfl rfl)
theorem dX0_lends_117 : decode cX0_lends 117 = .ok (.aaload, 1) := dk_50 (dk_at dksX0_lends_5 0 rfl rfl)
theorem dX0_lends_118 : decode cX0_lends 118 = .ok (.aload_n 0, 1) := dk_42 (dk_at dksX0_lends_5 1 rfl rfl)
theorem dX0_lends_119 : decode cX0_lends 119 = .ok (.getfield 141, 3) := dk_180 0 141 (dk_at dksX0_lends_5 2 rfl rfl)
theorem dX0_lends_122 : decode cX0_lends 122 = .ok (.iload_n 3, 1) := dk_29 (dk_at dksX0_lends_5 5 rfl rfl)
theorem dX0_lends_123 : decode cX0_lends 123 = .ok (.aaload, 1) := dk_50 (dk_at dksX0_lends_5 6 rfl rfl)
theorem dX0_lends_124 : decode cX0_lends 124 = .ok (.invokevirtual 144, 3) := dk_182 0 144 (dk_at dksX0_lends_5 7 rfl rfl)
theorem dX0_lends_127 : decode cX0_lends 127 = .ok (.iinc 2 1, 3) := dk_132 2 1 (dk_at dksX0_lends_5 10 rfl rfl)
theorem dX0_lends_130 : decode cX0_lends 130 = .ok (.goto (-128), 3) := dk_167 255 128 (dk_at dksX0_lends_5 13 rfl rfl)
theorem dX0_lends_133 : decode cX0_lends 133 = .ok (.return_, 1) := dk_177 (dk_at dksX0_lends_5 16 rfl rfl)
def dkwX0_humsOnce_0 : List UInt8 := [43, 44, 42, 180, 0, 161, 182, 0, 165, 44, 42, 180, 0, 161, 182, 0, 144, 177]
abbrev dktX0_humsOnce_0 : List UInt8 := dkwX0_humsOnce_0 ++ []
theorem dksX0_humsOnce_0 : cX0_humsOnce.data.toList.drop 0 = dktX0_humsOnce_0 := by decide +kernel
theorem dX0_humsOnce_0 : decode cX0_humsOnce 0 = .ok (.aload_n 1, 1) := dk_43 (dk_at dksX0_humsOnce_0 0 rfl rfl)
theorem dX0_humsOnce_1 : decode cX0_humsOnce 1 = .ok (.aload_n 2, 1) := dk_44 (dk_at dksX0_humsOnce_0 1 rfl rfl)
theorem dX0_humsOnce_2 : decode cX0_humsOnce 2 = .ok (.aload_n 0, 1) := dk_42 (dk_at dksX0_humsOnce_0 2 rfl rfl)
theorem dX0_humsOnce_3 : decode cX0_humsOnce 3 = .ok (.getfield 161, 3) := dk_180 0 161 (dk_at dksX0_humsOnce_0 3 rfl rfl)
theorem dX0_humsOnce_6 : decode cX0_humsOnce 6 = .ok (.invokevirtual 165, 3) := dk_182 0 165 (dk_at dksX0_humsOnce_0 6 rfl rfl)
theorem dX0_humsOnce_9 : decode cX0_humsOnce 9 = .ok (.aload_n 2, 1) := dk_44 (dk_at dksX0_humsOnce_0 9 rfl rfl)
theorem dX0_humsOnce_10 : decode cX0_humsOnce 10 = .ok (.aload_n 0, 1) := dk_42 (dk_at dksX0_humsOnce_0 10 rfl rfl)
theorem dX0_humsOnce_11 : decode cX0_humsOnce 11 = .ok (.getfield 161, 3) := dk_180 0 161 (dk_at dksX0_humsOnce_0 11 rfl rfl)
theorem dX0_humsOnce_14 : decode cX0_humsOnce 14 = .ok (.invokevirtual 144, 3) := dk_182 0 144 (dk_at dksX0_humsOnce_0 14 rfl rfl)
theorem dX0_humsOnce_17 : decode cX0_humsOnce 17 = .ok (.return_, 1) := dk_177 (dk_at dksX0_humsOnce_0 17 rfl rfl)
def dkwX0_comesBack_4 : List UInt8 := [153, 0, 18, 42, 180, 0, 141, 27, 50, 42, 180, 0, 169, 27, 50, 182, 0, 144, 177]
abbrev dktX0_comesBack_4 : List UInt8 := dkwX0_comesBack_4 ++ []
def dkwX0_comesBack_3 : List UInt8 := [27, 50, 180, 0, 37, 184, 0, 176, 162, 0, 7, 4, 167, 0, 4, 3, 84, 42, 180, 0, 155, 28, 51]
abbrev dktX0_comesBack_3 : List UInt8 := dkwX0_comesBack_3 ++ dktX0_comesBack_4
def dkwX0_comesBack_2 : List UInt8 := [180, 0, 169, 27, 50, 180, 0, 37, 100, 79, 42, 180, 0, 155, 28, 29, 42, 180, 0, 138, 42, 180, 0, 169]
abbrev dktX0_comesBack_2 : List UInt8 := dkwX0_comesBack_2 ++ dktX0_comesBack_3
def dkwX0_comesBack_1 : List UInt8 := [42, 180, 0, 148, 27, 2, 79, 42, 180, 0, 158, 28, 42, 180, 0, 141, 27, 50, 180, 0, 37, 42]
abbrev dktX0_comesBack_1 : List UInt8 := dkwX0_comesBack_1 ++ dktX0_comesBack_2
def dkwX0_comesBack_0 : List UInt8 := [42, 180, 0, 148, 27, 46, 61, 42, 42, 180, 0, 169, 27, 50, 42, 180, 0, 141, 27, 50, 182, 0, 172, 62]
abbrev dktX0_comesBack_0 : List UInt8 := dkwX0_comesBack_0 ++ dktX0_comesBack_1
theorem dksX0_comesBack_0 : cX0_comesBack.data.toList.drop 0 = dktX0_comesBack_0 := by decide +kernel
theorem dksX0_comesBack_1 : cX0_comesBack.data.toList.drop 24 = dktX0_comesBack_1 := dk_seg dksX0_comesBack_0 24 rfl rfl
theorem dksX0_comesBack_2 : cX0_comesBack.data.toList.drop 46 = dktX0_comesBack_2 := dk_seg dksX0_comesBack_1 22 rfl rfl
theorem dksX0_comesBack_3 : cX0_comesBack.data.toList.drop 70 = dktX0_comesBack_3 := dk_seg dksX0_comesBack_2 24 rfl rfl
theorem dksX0_comesBack_4 : cX0_comesBack.data.toList.drop 93 = dktX0_comesBack_4 := dk_seg dksX0_comesBack_3 23 rfl rfl
theorem dX0_comesBack_0 : decode cX0_comesBack 0 = .ok (.aload_n 0, 1) := dk_42 (dk_at dksX0_comesBack_0 0 rfl rfl)
theorem dX0_comesBack_1 : decode cX0_comesBack 1 = .ok (.getfield 148, 3) := dk_180 0 148 (dk_at dksX0_comesBack_0 1 rfl rfl)
theorem dX0_comesBack_4 : decode cX0_comesBack 4 = .ok (.iload_n 1, 1) := dk_27 (dk_at dksX0_comesBack_0 4 rfl rfl)
theorem dX0_comesBack_5 : decode cX0_comesBack 5 = .ok (.iaload, 1) := dk_46 (dk_at dksX0_comesBack_0 5 rfl rfl)
theorem dX0_comesBack_6 : decode cX0_comesBack 6 = .ok (.istore_n 2, 1) := dk_61 (dk_at dksX0_comesBack_0 6 rfl rfl)
theorem dX0_comesBack_7 : decode cX0_comesBack 7 = .ok (.aload_n 0, 1) := dk_42 (dk_at dksX0_comesBack_0 7 rfl rfl)
theorem dX0_comesBack_8 : decode cX0_comesBack 8 = .ok (.aload_n 0, 1) := dk_42 (dk_at dksX0_comesBack_0 8 rfl rfl)
theorem dX0_comesBack_9 : decode cX0_comesBack 9 = .ok (.getfield 169, 3) := dk_180 0 169 (dk_at dksX0_comesBack_0 9 rfl rfl)
theorem dX0_comesBack_12 : decode cX0_comesBack 12 = .ok (.iload_n 1, 1) := dk_27 (dk_at dksX0_comesBack_0 12 rfl rfl)
theorem dX0_comesBack_13 : decode cX0_comesBack 13 = .ok (.aaload, 1) := dk_50 (dk_at dksX0_comesBack_0 13 rfl rfl)
theorem dX0_comesBack_14 : decode cX0_comesBack 14 = .ok (.aload_n 0, 1) := dk_42 (dk_at dksX0_comesBack_0 14 rfl rfl)
theorem dX0_comesBack_15 : decode cX0_comesBack 15 = .ok (.getfield 141, 3) := dk_180 0 141 (dk_at dksX0_comesBack_0 15 rfl rfl)
theorem dX0_comesBack_18 : decode cX0_comesBack 18 = .ok (.iload_n 1, 1) := dk_27 (dk_at dksX0_comesBack_0 18 rfl rfl)
theorem dX0_comesBack_19 : decode cX0_comesBack 19 = .ok (.aaload, 1) := dk_50 (dk_at dksX0_comesBack_0 19 rfl rfl)
theorem dX0_comesBack_20 : decode cX0_comesBack 20 = .ok (.invokevirtual 172, 3) := dk_182 0 172 (dk_at dksX0_comesBack_0 20 rfl rfl)
theorem dX0_comesBack_23 : decode cX0_comesBack 23 = .ok (.istore_n 3, 1) := dk_62 (dk_at dksX0_comesBack_0 23 rfl rfl)
theorem dX0_comesBack_24 : decode cX0_comesBack 24 = .ok (.aload_n 0, 1) := dk_42 (dk_at dksX0_comesBack_1 0 rfl rfl)
theorem dX0_comesBack_25 : decode cX0_comesBack 25 = .ok (.getfield 148, 3) := dk_180 0 148 (dk_at dksX0_comesBack_1 1 rfl rfl)
theorem dX0_comesBack_28 : decode cX0_comesBack 28 = .ok (.iload_n 1, 1) := dk_27 (dk_at dksX0_comesBack_1 4 rfl rfl)
theorem dX0_comesBack_29 : decode cX0_comesBack 29 = .ok (.iconst (-1), 1) := dk_2 (dk_at dksX0_comesBack_1 5 rfl rfl)
theorem dX0_comesBack_30 : decode cX0_comesBack 30 = .ok (.iastore, 1) := dk_79 (dk_at dksX0_comesBack_1 6 rfl rfl)
theorem dX0_comesBack_31 : decode cX0_comesBack 31 = .ok (.aload_n 0, 1) := dk_42 (dk_at dksX0_comesBack_1 7 rfl rfl)
theorem dX0_comesBack_32 : decode cX0_comesBack 32 = .ok (.getfield 158, 3) := dk_180 0 158 (dk_at dksX0_comesBack_1 8 rfl rfl)
theorem dX0_comesBack_35 : decode cX0_comesBack 35 = .ok (.iload_n 2, 1) := dk_28 (dk_at dksX0_comesBack_1 11 rfl rfl)
theorem dX0_comesBack_36 : decode cX0_comesBack 36 = .ok (.aload_n 0, 1) := dk_42 (dk_at dksX0_comesBack_1 12 rfl rfl)
theorem dX0_comesBack_37 : decode cX0_comesBack 37 = .ok (.getfield 141, 3) := dk_180 0 141 (dk_at dksX0_comesBack_1 13 rfl rfl)
theorem dX0_comesBack_40 : decode cX0_comesBack 40 = .ok (.iload_n 1, 1) := dk_27 (dk_at dksX0_comesBack_1 16 rfl rfl)
theorem dX0_comesBack_41 : decode cX0_comesBack 41 = .ok (.aaload, 1) := dk_50 (dk_at dksX0_comesBack_1 17 rfl rfl)
theorem dX0_comesBack_42 : decode cX0_comesBack 42 = .ok (.getfield 37, 3) := dk_180 0 37 (dk_at dksX0_comesBack_1 18 rfl rfl)
theorem dX0_comesBack_45 : decode cX0_comesBack 45 = .ok (.aload_n 0, 1) := dk_42 (dk_at dksX0_comesBack_1 21 rfl rfl)
theorem dX0_comesBack_46 : decode cX0_comesBack 46 = .ok (.getfield 169, 3) := dk_180 0 169 (dk_at dksX0_comesBack_2 0 rfl rfl)
theorem dX0_comesBack_49 : decode cX0_comesBack 49 = .ok (.iload_n 1, 1) := dk_27 (dk_at dksX0_comesBack_2 3 rfl rfl)
theorem dX0_comesBack_50 : decode cX0_comesBack 50 = .ok (.aaload, 1) := dk_50 (dk_at dksX0_comesBack_2 4 rfl rfl)
theorem dX0_comesBack_51 : decode cX0_comesBack 51 = .ok (.getfield 37, 3) := dk_180 0 37 (dk_at dksX0_comesBack_2 5 rfl rfl)
theorem dX0_comesBack_54 : decode cX0_comesBack 54 = .ok (.isub, 1) := dk_100 (dk_at dksX0_comesBack_2 8 rfl rfl)
theorem dX0_comesBack_55 : decode cX0_comesBack 55 = .ok (.iastore, 1) := dk_79 (dk_at dksX0_comesBack_2 9 rfl rfl)
theorem dX0_comesBack_56 : decode cX0_comesBack 56 = .ok (.aload_n 0, 1) := dk_42 (dk_at dksX0_comesBack_2 10 rfl rfl)
theorem dX0_comesBack_57 : decode cX0_comesBack 57 = .ok (.getfield 155, 3) := dk_180 0 155 (dk_at dksX0_comesBack_2 11 rfl rfl)
theorem dX0_comesBack_60 : decode cX0_comesBack 60 = .ok (.iload_n 2, 1) := dk_28 (dk_at dksX0_comesBack_2 14 rfl rfl)
theorem dX0_comesBack_61 : decode cX0_comesBack 61 = .ok (.iload_n 3, 1) := dk_29 (dk_at dksX0_comesBack_2 15 rfl rfl)
theorem dX0_comesBack_62 : decode cX0_comesBack 62 = .ok (.aload_n 0, 1) := dk_42 (dk_at dksX0_comesBack_2 16 rfl rfl)
theorem dX0_comesBack_63 : decode cX0_comesBack 63 = .ok (.getfield 138, 3) := dk_180 0 138 (dk_at dksX0_comesBack_2 17 rfl rfl)
theorem dX0_comesBack_66 : decode cX0_comesBack 66 = .ok (.aload_n 0, 1) := dk_42 (dk_at dksX0_comesBack_2 20 rfl rfl)
theorem dX0_comesBack_67 : decode cX0_comesBack 67 = .ok (.getfield 169, 3) := dk_180 0 169 (dk_at dksX0_comesBack_2 21 rfl rfl)
theorem dX0_comesBack_70 : decode cX0_comesBack 70 = .ok (.iload_n 1, 1) := dk_27 (dk_at dksX0_comesBack_3 0 rfl rfl)
theorem dX0_comesBack_71 : decode cX0_comesBack 71 = .ok (.aaload, 1) := dk_50 (dk_at dksX0_comesBack_3 1 rfl rfl)
theorem dX0_comesBack_72 : decode cX0_comesBack 72 = .ok (.getfield 37, 3) := dk_180 0 37 (dk_at dksX0_comesBack_3 2 rfl rfl)
theorem dX0_comesBack_75 : decode cX0_comesBack 75 = .ok (.invokestatic 176, 3) := dk_184 0 176 (dk_at dksX0_comesBack_3 5 rfl rfl)
theorem dX0_comesBack_78 : decode cX0_comesBack 78 = .ok (.if_icmp .ge 7, 3) := dk_162 0 7 (dk_at dksX0_comesBack_3 8 rfl rfl)
theorem dX0_comesBack_81 : decode cX0_comesBack 81 = .ok (.iconst 1, 1) := dk_4 (dk_at dksX0_comesBack_3 11 rfl rfl)
theorem dX0_comesBack_82 : decode cX0_comesBack 82 = .ok (.goto 4, 3) := dk_167 0 4 (dk_at dksX0_comesBack_3 12 rfl rfl)
theorem dX0_comesBack_85 : decode cX0_comesBack 85 = .ok (.iconst 0, 1) := dk_3 (dk_at dksX0_comesBack_3 15 rfl rfl)
theorem dX0_comesBack_86 : decode cX0_comesBack 86 = .ok (.bastore, 1) := dk_84 (dk_at dksX0_comesBack_3 16 rfl rfl)
theorem dX0_comesBack_87 : decode cX0_comesBack 87 = .ok (.aload_n 0, 1) := dk_42 (dk_at dksX0_comesBack_3 17 rfl rfl)
theorem dX0_comesBack_88 : decode cX0_comesBack 88 = .ok (.getfield 155, 3) := dk_180 0 155 (dk_at dksX0_comesBack_3 18 rfl rfl)
theorem dX0_comesBack_91 : decode cX0_comesBack 91 = .ok (.iload_n 2, 1) := dk_28 (dk_at dksX0_comesBack_3 21 rfl rfl)
theorem dX0_comesBack_92 : decode cX0_comesBack 92 = .ok (.baload, 1) := dk_51 (dk_at dksX0_comesBack_3 22 rfl rfl)
theorem dX0_comesBack_93 : decode cX0_comesBack 93 = .ok (.ifCond .eq 18, 3) := dk_153 0 18 (dk_at dksX0_comesBack_4 0 rfl rfl)
theorem dX0_comesBack_96 : decode cX0_comesBack 96 = .ok (.aload_n 0, 1) := dk_42 (dk_at dksX0_comesBack_4 3 rfl rfl)
theorem dX0_comesBack_97 : decode cX0_comesBack 97 = .ok (.getfield 141, 3) := dk_180 0 141 (dk_at dksX0_comesBack_4 4 rfl rfl)
theorem dX0_comesBack_100 : decode cX0_comesBack 100 = .ok (.iload_n 1, 1) := dk_27 (dk_at dksX0_comesBack_4 7 rfl rfl)
theorem dX0_comesBack_101 : decode cX0_comesBack 101 = .ok (.aaload, 1) := dk_50 (dk_at dksX0_comesBack_4 8 rfl rfl)
theorem dX0_comesBack_102 : decode cX0_comesBack 102 = .ok (.aload_n 0, 1) := dk_42 (dk_at dksX0_comesBack_4 9 rfl rfl)
theorem dX0_comesBack_103 : decode cX0_comesBack 103 = .ok (.getfield 169, 3) := dk_180 0 169 (dk_at dksX0_comesBack_4 10 rfl rfl)
theorem dX0_comesBack_106 : decode cX0_comesBack 106 = .ok (.iload_n 1, 1) := dk_27 (dk_at dksX0_comesBack_4 13 rfl rfl)
theorem dX0_comesBack_107 : decode cX0_comesBack 107 = .ok (.aaload, 1) := dk_50 (dk_at dksX0_comesBack_4 14 rfl rfl)
theorem dX0_comesBack_108 : decode cX0_comesBack 108 = .ok (.invokevirtual 144, 3) := dk_182 0 144 (dk_at dksX0_comesBack_4 15 rfl rfl)
theorem dX0_comesBack_111 : decode cX0_comesBack 111 = .ok (.return_, 1) := dk_177 (dk_at dksX0_comesBack_4 18 rfl rfl)
def dkwX0_commonOf_5 : List UInt8 := [132, 3, 1, 167, 255, 160, 42, 180, 0, 251, 44, 180, 0, 37, 46, 172]
abbrev dktX0_commonOf_5 : List UInt8 := dkwX0_commonOf_5 ++ []
def dkwX0_commonOf_4 : List UInt8 := [46, 42, 180, 0, 251, 21, 5, 4, 100, 46, 184, 0, 219, 79, 21, 6, 54, 4, 132, 5, 1, 167, 255, 180]
abbrev dktX0_commonOf_4 : List UInt8 := dkwX0_commonOf_4 ++ dktX0_commonOf_5
def dkwX0_commonOf_3 : List UInt8 := [180, 0, 83, 21, 5, 4, 100, 46, 160, 0, 10, 21, 4, 4, 96, 167, 0, 22, 42, 180, 0, 251, 21, 5]
abbrev dktX0_commonOf_3 : List UInt8 := dkwX0_commonOf_3 ++ dktX0_commonOf_4
def dkwX0_commonOf_2 : List UInt8 := [42, 180, 0, 251, 21, 5, 46, 54, 6, 42, 180, 0, 251, 21, 5, 43, 180, 0, 83, 29, 46, 44]
abbrev dktX0_commonOf_2 : List UInt8 := dkwX0_commonOf_2 ++ dktX0_commonOf_3
def dkwX0_commonOf_1 : List UInt8 := [62, 29, 43, 180, 0, 37, 162, 0, 94, 3, 54, 4, 4, 54, 5, 21, 5, 44, 180, 0, 37, 163, 0, 73]
abbrev dktX0_commonOf_1 : List UInt8 := dkwX0_commonOf_1 ++ dktX0_commonOf_2
def dkwX0_commonOf_0 : List UInt8 := [3, 62, 29, 44, 180, 0, 37, 163, 0, 16, 42, 180, 0, 251, 29, 3, 79, 132, 3, 1, 167, 255, 238, 3]
abbrev dktX0_commonOf_0 : List UInt8 := dkwX0_commonOf_0 ++ dktX0_commonOf_1
theorem dksX0_commonOf_0 : cX0_commonOf.data.toList.drop 0 = dktX0_commonOf_0 := by decide +kernel
theorem dksX0_commonOf_1 : cX0_commonOf.data.toList.drop 24 = dktX0_commonOf_1 := dk_seg dksX0_commonOf_0 24 rfl rfl
theorem dksX0_commonOf_2 : cX0_commonOf.data.toList.drop 48 = dktX0_commonOf_2 := dk_seg dksX0_commonOf_1 24 rfl rfl
theorem dksX0_commonOf_3 : cX0_commonOf.data.toList.drop 70 = dktX0_commonOf_3 := dk_seg dksX0_commonOf_2 22 rfl rfl
theorem dksX0_commonOf_4 : cX0_commonOf.data.toList.drop 94 = dktX0_commonOf_4 := dk_seg dksX0_commonOf_3 24 rfl rfl
theorem dksX0_commonOf_5 : cX0_commonOf.data.toList.drop 118 = dktX0_commonOf_5 := dk_seg dksX0_commonOf_4 24 rfl rfl
theorem dX0_commonOf_0 : decode cX0_commonOf 0 = .ok (.iconst 0, 1) := dk_3 (dk_at dksX0_commonOf_0 0 rfl rfl)
theorem dX0_commonOf_1 : decode cX0_commonOf 1 = .ok (.istore_n 3, 1) := dk_62 (dk_at dksX0_commonOf_0 1 rfl rfl)
theorem dX0_commonOf_2 : decode cX0_commonOf 2 = .ok (.iload_n 3, 1) := dk_29 (dk_at dksX0_commonOf_0 2 rfl rfl)
theorem dX0_commonOf_3 : decode cX0_commonOf 3 = .ok (.aload_n 2, 1) := dk_44 (dk_at dksX0_commonOf_0 3 rfl rfl)
theorem dX0_commonOf_4 : decode cX0_commonOf 4 = .ok (.getfield 37, 3) := dk_180 0 37 (dk_at dksX0_commonOf_0 4 rfl rfl)
theorem dX0_commonOf_7 : decode cX0_commonOf 7 = .ok (.if_icmp .gt 16, 3) := dk_163 0 16 (dk_at dksX0_commonOf_0 7 rfl rfl)
theorem dX0_commonOf_10 : decode cX0_commonOf 10 = .ok (.aload_n 0, 1) := dk_42 (dk_at dksX0_commonOf_0 10 rfl rfl)
theorem dX0_commonOf_11 : decode cX0_commonOf 11 = .ok (.getfield 251, 3) := dk_180 0 251 (dk_at dksX0_commonOf_0 11 rfl rfl)
theorem dX0_commonOf_14 : decode cX0_commonOf 14 = .ok (.iload_n 3, 1) := dk_29 (dk_at dksX0_commonOf_0 14 rfl rfl)
theorem dX0_commonOf_15 : decode cX0_commonOf 15 = .ok (.iconst 0, 1) := dk_3 (dk_at dksX0_commonOf_0 15 rfl rfl)
theorem dX0_commonOf_16 : decode cX0_commonOf 16 = .ok (.iastore, 1) := dk_79 (dk_at dksX0_commonOf_0 16 rfl rfl)
theorem dX0_commonOf_17 : decode cX0_commonOf 17 = .ok (.iinc 3 1, 3) := dk_132 3 1 (dk_at dksX0_commonOf_0 17 rfl rfl)
theorem dX0_commonOf_20 : decode cX0_commonOf 20 = .ok (.goto (-18), 3) := dk_167 255 238 (dk_at dksX0_commonOf_0 20 rfl rfl)
theorem dX0_commonOf_23 : decode cX0_commonOf 23 = .ok (.iconst 0, 1) := dk_3 (dk_at dksX0_commonOf_0 23 rfl rfl)
theorem dX0_commonOf_24 : decode cX0_commonOf 24 = .ok (.istore_n 3, 1) := dk_62 (dk_at dksX0_commonOf_1 0 rfl rfl)
theorem dX0_commonOf_25 : decode cX0_commonOf 25 = .ok (.iload_n 3, 1) := dk_29 (dk_at dksX0_commonOf_1 1 rfl rfl)
theorem dX0_commonOf_26 : decode cX0_commonOf 26 = .ok (.aload_n 1, 1) := dk_43 (dk_at dksX0_commonOf_1 2 rfl rfl)
theorem dX0_commonOf_27 : decode cX0_commonOf 27 = .ok (.getfield 37, 3) := dk_180 0 37 (dk_at dksX0_commonOf_1 3 rfl rfl)
theorem dX0_commonOf_30 : decode cX0_commonOf 30 = .ok (.if_icmp .ge 94, 3) := dk_162 0 94 (dk_at dksX0_commonOf_1 6 rfl rfl)
theorem dX0_commonOf_33 : decode cX0_commonOf 33 = .ok (.iconst 0, 1) := dk_3 (dk_at dksX0_commonOf_1 9 rfl rfl)
theorem dX0_commonOf_34 : decode cX0_commonOf 34 = .ok (.istore 4, 2) := dk_54 4 (dk_at dksX0_commonOf_1 10 rfl rfl)
theorem dX0_commonOf_36 : decode cX0_commonOf 36 = .ok (.iconst 1, 1) := dk_4 (dk_at dksX0_commonOf_1 12 rfl rfl)
theorem dX0_commonOf_37 : decode cX0_commonOf 37 = .ok (.istore 5, 2) := dk_54 5 (dk_at dksX0_commonOf_1 13 rfl rfl)
theorem dX0_commonOf_39 : decode cX0_commonOf 39 = .ok (.iload 5, 2) := dk_21 5 (dk_at dksX0_commonOf_1 15 rfl rfl)
theorem dX0_commonOf_41 : decode cX0_commonOf 41 = .ok (.aload_n 2, 1) := dk_44 (dk_at dksX0_commonOf_1 17 rfl rfl)
theorem dX0_commonOf_42 : decode cX0_commonOf 42 = .ok (.getfield 37, 3) := dk_180 0 37 (dk_at dksX0_commonOf_1 18 rfl rfl)
theorem dX0_commonOf_45 : decode cX0_commonOf 45 = .ok (.if_icmp .gt 73, 3) := dk_163 0 73 (dk_at dksX0_commonOf_1 21 rfl rfl)
theorem dX0_commonOf_48 : decode cX0_commonOf 48 = .ok (.aload_n 0, 1) := dk_42 (dk_at dksX0_commonOf_2 0 rfl rfl)
theorem dX0_commonOf_49 : decode cX0_commonOf 49 = .ok (.getfield 251, 3) := dk_180 0 251 (dk_at dksX0_commonOf_2 1 rfl rfl)
theorem dX0_commonOf_52 : decode cX0_commonOf 52 = .ok (.iload 5, 2) := dk_21 5 (dk_at dksX0_commonOf_2 4 rfl rfl)
theorem dX0_commonOf_54 : decode cX0_commonOf 54 = .ok (.iaload, 1) := dk_46 (dk_at dksX0_commonOf_2 6 rfl rfl)
theorem dX0_commonOf_55 : decode cX0_commonOf 55 = .ok (.istore 6, 2) := dk_54 6 (dk_at dksX0_commonOf_2 7 rfl rfl)
theorem dX0_commonOf_57 : decode cX0_commonOf 57 = .ok (.aload_n 0, 1) := dk_42 (dk_at dksX0_commonOf_2 9 rfl rfl)
theorem dX0_commonOf_58 : decode cX0_commonOf 58 = .ok (.getfield 251, 3) := dk_180 0 251 (dk_at dksX0_commonOf_2 10 rfl rfl)
theorem dX0_commonOf_61 : decode cX0_commonOf 61 = .ok (.iload 5, 2) := dk_21 5 (dk_at dksX0_commonOf_2 13 rfl rfl)
theorem dX0_commonOf_63 : decode cX0_commonOf 63 = .ok (.aload_n 1, 1) := dk_43 (dk_at dksX0_commonOf_2 15 rfl rfl)
theorem dX0_commonOf_64 : decode cX0_commonOf 64 = .ok (.getfield 83, 3) := dk_180 0 83 (dk_at dksX0_commonOf_2 16 rfl rfl)
theorem dX0_commonOf_67 : decode cX0_commonOf 67 = .ok (.iload_n 3, 1) := dk_29 (dk_at dksX0_commonOf_2 19 rfl rfl)
theorem dX0_commonOf_68 : decode cX0_commonOf 68 = .ok (.iaload, 1) := dk_46 (dk_at dksX0_commonOf_2 20 rfl rfl)
theorem dX0_commonOf_69 : decode cX0_commonOf 69 = .ok (.aload_n 2, 1) := dk_44 (dk_at dksX0_commonOf_2 21 rfl rfl)
theorem dX0_commonOf_70 : decode cX0_commonOf 70 = .ok (.getfield 83, 3) := dk_180 0 83 (dk_at dksX0_commonOf_3 0 rfl rfl)
theorem dX0_commonOf_73 : decode cX0_commonOf 73 = .ok (.iload 5, 2) := dk_21 5 (dk_at dksX0_commonOf_3 3 rfl rfl)
theorem dX0_commonOf_75 : decode cX0_commonOf 75 = .ok (.iconst 1, 1) := dk_4 (dk_at dksX0_commonOf_3 5 rfl rfl)
theorem dX0_commonOf_76 : decode cX0_commonOf 76 = .ok (.isub, 1) := dk_100 (dk_at dksX0_commonOf_3 6 rfl rfl)
theorem dX0_commonOf_77 : decode cX0_commonOf 77 = .ok (.iaload, 1) := dk_46 (dk_at dksX0_commonOf_3 7 rfl rfl)
theorem dX0_commonOf_78 : decode cX0_commonOf 78 = .ok (.if_icmp .ne 10, 3) := dk_160 0 10 (dk_at dksX0_commonOf_3 8 rfl rfl)
theorem dX0_commonOf_81 : decode cX0_commonOf 81 = .ok (.iload 4, 2) := dk_21 4 (dk_at dksX0_commonOf_3 11 rfl rfl)
theorem dX0_commonOf_83 : decode cX0_commonOf 83 = .ok (.iconst 1, 1) := dk_4 (dk_at dksX0_commonOf_3 13 rfl rfl)
theorem dX0_commonOf_84 : decode cX0_commonOf 84 = .ok (.iadd, 1) := dk_96 (dk_at dksX0_commonOf_3 14 rfl rfl)
theorem dX0_commonOf_85 : decode cX0_commonOf 85 = .ok (.goto 22, 3) := dk_167 0 22 (dk_at dksX0_commonOf_3 15 rfl rfl)
theorem dX0_commonOf_88 : decode cX0_commonOf 88 = .ok (.aload_n 0, 1) := dk_42 (dk_at dksX0_commonOf_3 18 rfl rfl)
theorem dX0_commonOf_89 : decode cX0_commonOf 89 = .ok (.getfield 251, 3) := dk_180 0 251 (dk_at dksX0_commonOf_3 19 rfl rfl)
theorem dX0_commonOf_92 : decode cX0_commonOf 92 = .ok (.iload 5, 2) := dk_21 5 (dk_at dksX0_commonOf_3 22 rfl rfl)
theorem dX0_commonOf_94 : decode cX0_commonOf 94 = .ok (.iaload, 1) := dk_46 (dk_at dksX0_commonOf_4 0 rfl rfl)
theorem dX0_commonOf_95 : decode cX0_commonOf 95 = .ok (.aload_n 0, 1) := dk_42 (dk_at dksX0_commonOf_4 1 rfl rfl)
theorem dX0_commonOf_96 : decode cX0_commonOf 96 = .ok (.getfield 251, 3) := dk_180 0 251 (dk_at dksX0_commonOf_4 2 rfl rfl)
theorem dX0_commonOf_99 : decode cX0_commonOf 99 = .ok (.iload 5, 2) := dk_21 5 (dk_at dksX0_commonOf_4 5 rfl rfl)
theorem dX0_commonOf_101 : decode cX0_commonOf 101 = .ok (.iconst 1, 1) := dk_4 (dk_at dksX0_commonOf_4 7 rfl rfl)
theorem dX0_commonOf_102 : decode cX0_commonOf 102 = .ok (.isub, 1) := dk_100 (dk_at dksX0_commonOf_4 8 rfl rfl)
theorem dX0_commonOf_103 : decode cX0_commonOf 103 = .ok (.iaload, 1) := dk_46 (dk_at dksX0_commonOf_4 9 rfl rfl)
theorem dX0_commonOf_104 : decode cX0_commonOf 104 = .ok (.invokestatic 219, 3) := dk_184 0 219 (dk_at dksX0_commonOf_4 10 rfl rfl)
theorem dX0_commonOf_107 : decode cX0_commonOf 107 = .ok (.iastore, 1) := dk_79 (dk_at dksX0_commonOf_4 13 rfl rfl)
theorem dX0_commonOf_108 : decode cX0_commonOf 108 = .ok (.iload 6, 2) := dk_21 6 (dk_at dksX0_commonOf_4 14 rfl rfl)
theorem dX0_commonOf_110 : decode cX0_commonOf 110 = .ok (.istore 4, 2) := dk_54 4 (dk_at dksX0_commonOf_4 16 rfl rfl)
theorem dX0_commonOf_112 : decode cX0_commonOf 112 = .ok (.iinc 5 1, 3) := dk_132 5 1 (dk_at dksX0_commonOf_4 18 rfl rfl)
theorem dX0_commonOf_115 : decode cX0_commonOf 115 = .ok (.goto (-76), 3) := dk_167 255 180 (dk_at dksX0_commonOf_4 21 rfl rfl)
theorem dX0_commonOf_118 : decode cX0_commonOf 118 = .ok (.iinc 3 1, 3) := dk_132 3 1 (dk_at dksX0_commonOf_5 0 rfl rfl)
theorem dX0_commonOf_121 : decode cX0_commonOf 121 = .ok (.goto (-96), 3) := dk_167 255 160 (dk_at dksX0_commonOf_5 3 rfl rfl)
theorem dX0_commonOf_124 : decode cX0_commonOf 124 = .ok (.aload_n 0, 1) := dk_42 (dk_at dksX0_commonOf_5 6 rfl rfl)
theorem dX0_commonOf_125 : decode cX0_commonOf 125 = .ok (.getfield 251, 3) := dk_180 0 251 (dk_at dksX0_commonOf_5 7 rfl rfl)
theorem dX0_commonOf_128 : decode cX0_commonOf 128 = .ok (.aload_n 2, 1) := dk_44 (dk_at dksX0_commonOf_5 10 rfl rfl)
theorem dX0_commonOf_129 : decode cX0_commonOf 129 = .ok (.getfield 37, 3) := dk_180 0 37 (dk_at dksX0_commonOf_5 11 rfl rfl)
theorem dX0_commonOf_132 : decode cX0_commonOf 132 = .ok (.iaload, 1) := dk_46 (dk_at dksX0_commonOf_5 14 rfl rfl)
theorem dX0_commonOf_133 : decode cX0_commonOf 133 = .ok (.ireturn, 1) := dk_172 (dk_at dksX0_commonOf_5 15 rfl rfl)
def dkwX0_has_1 : List UInt8 := [16, 254, 172]
abbrev dktX0_has_1 : List UInt8 := dkwX0_has_1 ++ []
def dkwX0_has_0 : List UInt8 := [27, 184, 0, 102, 153, 0, 20, 42, 28, 182, 0, 86, 153, 0, 12, 42, 27, 28, 182, 0, 204, 167, 0, 5]
abbrev dktX0_has_0 : List UInt8 := dkwX0_has_0 ++ dktX0_has_1
theorem dksX0_has_0 : cX0_has.data.toList.drop 0 = dktX0_has_0 := by decide +kernel
theorem dksX0_has_1 : cX0_has.data.toList.drop 24 = dktX0_has_1 := dk_seg dksX0_has_0 24 rfl rfl
theorem dX0_has_0 : decode cX0_has 0 = .ok (.iload_n 1, 1) := dk_27 (dk_at dksX0_has_0 0 rfl rfl)
theorem dX0_has_1 : decode cX0_has 1 = .ok (.invokestatic 102, 3) := dk_184 0 102 (dk_at dksX0_has_0 1 rfl rfl)
theorem dX0_has_4 : decode cX0_has 4 = .ok (.ifCond .eq 20, 3) := dk_153 0 20 (dk_at dksX0_has_0 4 rfl rfl)
theorem dX0_has_7 : decode cX0_has 7 = .ok (.aload_n 0, 1) := dk_42 (dk_at dksX0_has_0 7 rfl rfl)
theorem dX0_has_8 : decode cX0_has 8 = .ok (.iload_n 2, 1) := dk_28 (dk_at dksX0_has_0 8 rfl rfl)
theorem dX0_has_9 : decode cX0_has 9 = .ok (.invokevirtual 86, 3) := dk_182 0 86 (dk_at dksX0_has_0 9 rfl rfl)
theorem dX0_has_12 : decode cX0_has 12 = .ok (.ifCond .eq 12, 3) := dk_153 0 12 (dk_at dksX0_has_0 12 rfl rfl)
theorem dX0_has_15 : decode cX0_has 15 = .ok (.aload_n 0, 1) := dk_42 (dk_at dksX0_has_0 15 rfl rfl)
theorem dX0_has_16 : decode cX0_has 16 = .ok (.iload_n 1, 1) := dk_27 (dk_at dksX0_has_0 16 rfl rfl)
theorem dX0_has_17 : decode cX0_has 17 = .ok (.iload_n 2, 1) := dk_28 (dk_at dksX0_has_0 17 rfl rfl)
theorem dX0_has_18 : decode cX0_has 18 = .ok (.invokevirtual 204, 3) := dk_182 0 204 (dk_at dksX0_has_0 18 rfl rfl)
theorem dX0_has_21 : decode cX0_has 21 = .ok (.goto 5, 3) := dk_167 0 5 (dk_at dksX0_has_0 21 rfl rfl)
theorem dX0_has_24 : decode cX0_has 24 = .ok (.bipush (-2), 2) := dk_16 254 (dk_at dksX0_has_1 0 rfl rfl)
theorem dX0_has_26 : decode cX0_has 26 = .ok (.ireturn, 1) := dk_172 (dk_at dksX0_has_1 2 rfl rfl)
def dkwX0_hasOf_1 : List UInt8 := [50, 42, 180, 0, 148, 28, 46, 46, 172]
abbrev dktX0_hasOf_1 : List UInt8 := dkwX0_hasOf_1 ++ []
def dkwX0_hasOf_0 : List UInt8 := [42, 27, 182, 0, 197, 42, 180, 0, 148, 28, 46, 2, 160, 0, 7, 2, 167, 0, 16, 42, 180, 0, 111, 5]
abbrev dktX0_hasOf_0 : List UInt8 := dkwX0_hasOf_0 ++ dktX0_hasOf_1
theorem dksX0_hasOf_0 : cX0_hasOf.data.toList.drop 0 = dktX0_hasOf_0 := by decide +kernel
theorem dksX0_hasOf_1 : cX0_hasOf.data.toList.drop 24 = dktX0_hasOf_1 := dk_seg dksX0_hasOf_0 24 rfl rfl
theorem dX0_hasOf_0 : decode cX0_hasOf 0 = .ok (.aload_n 0, 1) := dk_42 (dk_at dksX0_hasOf_0 0 rfl rfl)
theorem dX0_hasOf_1 : decode cX0_hasOf 1 = .ok (.iload_n 1, 1) := dk_27 (dk_at dksX0_hasOf_0 1 rfl rfl)
theorem dX0_hasOf_2 : decode cX0_hasOf 2 = .ok (.invokevirtual 197, 3) := dk_182 0 197 (dk_at dksX0_hasOf_0 2 rfl rfl)
theorem dX0_hasOf_5 : decode cX0_hasOf 5 = .ok (.aload_n 0, 1) := dk_42 (dk_at dksX0_hasOf_0 5 rfl rfl)
theorem dX0_hasOf_6 : decode cX0_hasOf 6 = .ok (.getfield 148, 3) := dk_180 0 148 (dk_at dksX0_hasOf_0 6 rfl rfl)
theorem dX0_hasOf_9 : decode cX0_hasOf 9 = .ok (.iload_n 2, 1) := dk_28 (dk_at dksX0_hasOf_0 9 rfl rfl)
theorem dX0_hasOf_10 : decode cX0_hasOf 10 = .ok (.iaload, 1) := dk_46 (dk_at dksX0_hasOf_0 10 rfl rfl)
theorem dX0_hasOf_11 : decode cX0_hasOf 11 = .ok (.iconst (-1), 1) := dk_2 (dk_at dksX0_hasOf_0 11 rfl rfl)
theorem dX0_hasOf_12 : decode cX0_hasOf 12 = .ok (.if_icmp .ne 7, 3) := dk_160 0 7 (dk_at dksX0_hasOf_0 12 rfl rfl)
theorem dX0_hasOf_15 : decode cX0_hasOf 15 = .ok (.iconst (-1), 1) := dk_2 (dk_at dksX0_hasOf_0 15 rfl rfl)
theorem dX0_hasOf_16 : decode cX0_hasOf 16 = .ok (.goto 16, 3) := dk_167 0 16 (dk_at dksX0_hasOf_0 16 rfl rfl)
theorem dX0_hasOf_19 : decode cX0_hasOf 19 = .ok (.aload_n 0, 1) := dk_42 (dk_at dksX0_hasOf_0 19 rfl rfl)
theorem dX0_hasOf_20 : decode cX0_hasOf 20 = .ok (.getfield 111, 3) := dk_180 0 111 (dk_at dksX0_hasOf_0 20 rfl rfl)
theorem dX0_hasOf_23 : decode cX0_hasOf 23 = .ok (.iconst 2, 1) := dk_5 (dk_at dksX0_hasOf_0 23 rfl rfl)
theorem dX0_hasOf_24 : decode cX0_hasOf 24 = .ok (.aaload, 1) := dk_50 (dk_at dksX0_hasOf_1 0 rfl rfl)
theorem dX0_hasOf_25 : decode cX0_hasOf 25 = .ok (.aload_n 0, 1) := dk_42 (dk_at dksX0_hasOf_1 1 rfl rfl)
theorem dX0_hasOf_26 : decode cX0_hasOf 26 = .ok (.getfield 148, 3) := dk_180 0 148 (dk_at dksX0_hasOf_1 2 rfl rfl)
theorem dX0_hasOf_29 : decode cX0_hasOf 29 = .ok (.iload_n 2, 1) := dk_28 (dk_at dksX0_hasOf_1 5 rfl rfl)
theorem dX0_hasOf_30 : decode cX0_hasOf 30 = .ok (.iaload, 1) := dk_46 (dk_at dksX0_hasOf_1 6 rfl rfl)
theorem dX0_hasOf_31 : decode cX0_hasOf 31 = .ok (.iaload, 1) := dk_46 (dk_at dksX0_hasOf_1 7 rfl rfl)
theorem dX0_hasOf_32 : decode cX0_hasOf 32 = .ok (.ireturn, 1) := dk_172 (dk_at dksX0_hasOf_1 8 rfl rfl)
def dkwX0_came_1 : List UInt8 := [27, 28, 182, 0, 207, 167, 0, 6, 17, 252, 22, 172]
abbrev dktX0_came_1 : List UInt8 := dkwX0_came_1 ++ []
def dkwX0_came_0 : List UInt8 := [27, 3, 42, 180, 0, 108, 4, 100, 184, 0, 5, 153, 0, 21, 28, 3, 5, 184, 0, 5, 153, 0, 12, 42]
abbrev dktX0_came_0 : List UInt8 := dkwX0_came_0 ++ dktX0_came_1
theorem dksX0_came_0 : cX0_came.data.toList.drop 0 = dktX0_came_0 := by decide +kernel
theorem dksX0_came_1 : cX0_came.data.toList.drop 24 = dktX0_came_1 := dk_seg dksX0_came_0 24 rfl rfl
theorem dX0_came_0 : decode cX0_came 0 = .ok (.iload_n 1, 1) := dk_27 (dk_at dksX0_came_0 0 rfl rfl)
theorem dX0_came_1 : decode cX0_came 1 = .ok (.iconst 0, 1) := dk_3 (dk_at dksX0_came_0 1 rfl rfl)
theorem dX0_came_2 : decode cX0_came 2 = .ok (.aload_n 0, 1) := dk_42 (dk_at dksX0_came_0 2 rfl rfl)
theorem dX0_came_3 : decode cX0_came 3 = .ok (.getfield 108, 3) := dk_180 0 108 (dk_at dksX0_came_0 3 rfl rfl)
theorem dX0_came_6 : decode cX0_came 6 = .ok (.iconst 1, 1) := dk_4 (dk_at dksX0_came_0 6 rfl rfl)
theorem dX0_came_7 : decode cX0_came 7 = .ok (.isub, 1) := dk_100 (dk_at dksX0_came_0 7 rfl rfl)
theorem dX0_came_8 : decode cX0_came 8 = .ok (.invokestatic 5, 3) := dk_184 0 5 (dk_at dksX0_came_0 8 rfl rfl)
theorem dX0_came_11 : decode cX0_came 11 = .ok (.ifCond .eq 21, 3) := dk_153 0 21 (dk_at dksX0_came_0 11 rfl rfl)
theorem dX0_came_14 : decode cX0_came 14 = .ok (.iload_n 2, 1) := dk_28 (dk_at dksX0_came_0 14 rfl rfl)
theorem dX0_came_15 : decode cX0_came 15 = .ok (.iconst 0, 1) := dk_3 (dk_at dksX0_came_0 15 rfl rfl)
theorem dX0_came_16 : decode cX0_came 16 = .ok (.iconst 2, 1) := dk_5 (dk_at dksX0_came_0 16 rfl rfl)
theorem dX0_came_17 : decode cX0_came 17 = .ok (.invokestatic 5, 3) := dk_184 0 5 (dk_at dksX0_came_0 17 rfl rfl)
theorem dX0_came_20 : decode cX0_came 20 = .ok (.ifCond .eq 12, 3) := dk_153 0 12 (dk_at dksX0_came_0 20 rfl rfl)
theorem dX0_came_23 : decode cX0_came 23 = .ok (.aload_n 0, 1) := dk_42 (dk_at dksX0_came_0 23 rfl rfl)
theorem dX0_came_24 : decode cX0_came 24 = .ok (.iload_n 1, 1) := dk_27 (dk_at dksX0_came_1 0 rfl rfl)
theorem dX0_came_25 : decode cX0_came 25 = .ok (.iload_n 2, 1) := dk_28 (dk_at dksX0_came_1 1 rfl rfl)
theorem dX0_came_26 : decode cX0_came 26 = .ok (.invokevirtual 207, 3) := dk_182 0 207 (dk_at dksX0_came_1 2 rfl rfl)
theorem dX0_came_29 : decode cX0_came 29 = .ok (.goto 6, 3) := dk_167 0 6 (dk_at dksX0_came_1 5 rfl rfl)
theorem dX0_came_32 : decode cX0_came 32 = .ok (.sipush (-1002), 3) := dk_17 252 22 (dk_at dksX0_came_1 8 rfl rfl)
theorem dX0_came_35 : decode cX0_came 35 = .ok (.ireturn, 1) := dk_172 (dk_at dksX0_came_1 11 rfl rfl)
def dkwX0_cameOf_2 : List UInt8 := [167, 0, 9, 42, 180, 0, 158, 27, 46, 172]
abbrev dktX0_cameOf_2 : List UInt8 := dkwX0_cameOf_2 ++ []
def dkwX0_cameOf_1 : List UInt8 := [167, 0, 31, 28, 4, 160, 0, 20, 42, 180, 0, 155, 27, 51, 153, 0, 7, 4, 167, 0, 13, 3]
abbrev dktX0_cameOf_1 : List UInt8 := dkwX0_cameOf_1 ++ dktX0_cameOf_2
def dkwX0_cameOf_0 : List UInt8 := [42, 16, 39, 182, 0, 197, 28, 154, 0, 20, 42, 180, 0, 151, 27, 51, 153, 0, 7, 4, 167, 0, 35, 3]
abbrev dktX0_cameOf_0 : List UInt8 := dkwX0_cameOf_0 ++ dktX0_cameOf_1
theorem dksX0_cameOf_0 : cX0_cameOf.data.toList.drop 0 = dktX0_cameOf_0 := by decide +kernel
theorem dksX0_cameOf_1 : cX0_cameOf.data.toList.drop 24 = dktX0_cameOf_1 := dk_seg dksX0_cameOf_0 24 rfl rfl
theorem dksX0_cameOf_2 : cX0_cameOf.data.toList.drop 46 = dktX0_cameOf_2 := dk_seg dksX0_cameOf_1 22 rfl rfl
theorem dX0_cameOf_0 : decode cX0_cameOf 0 = .ok (.aload_n 0, 1) := dk_42 (dk_at dksX0_cameOf_0 0 rfl rfl)
theorem dX0_cameOf_1 : decode cX0_cameOf 1 = .ok (.bipush 39, 2) := dk_16 39 (dk_at dksX0_cameOf_0 1 rfl rfl)
theorem dX0_cameOf_3 : decode cX0_cameOf 3 = .ok (.invokevirtual 197, 3) := dk_182 0 197 (dk_at dksX0_cameOf_0 3 rfl rfl)
theorem dX0_cameOf_6 : decode cX0_cameOf 6 = .ok (.iload_n 2, 1) := dk_28 (dk_at dksX0_cameOf_0 6 rfl rfl)
theorem dX0_cameOf_7 : decode cX0_cameOf 7 = .ok (.ifCond .ne 20, 3) := dk_154 0 20 (dk_at dksX0_cameOf_0 7 rfl rfl)
theorem dX0_cameOf_10 : decode cX0_cameOf 10 = .ok (.aload_n 0, 1) := dk_42 (dk_at dksX0_cameOf_0 10 rfl rfl)
theorem dX0_cameOf_11 : decode cX0_cameOf 11 = .ok (.getfield 151, 3) := dk_180 0 151 (dk_at dksX0_cameOf_0 11 rfl rfl)
theorem dX0_cameOf_14 : decode cX0_cameOf 14 = .ok (.iload_n 1, 1) := dk_27 (dk_at dksX0_cameOf_0 14 rfl rfl)
theorem dX0_cameOf_15 : decode cX0_cameOf 15 = .ok (.baload, 1) := dk_51 (dk_at dksX0_cameOf_0 15 rfl rfl)
theorem dX0_cameOf_16 : decode cX0_cameOf 16 = .ok (.ifCond .eq 7, 3) := dk_153 0 7 (dk_at dksX0_cameOf_0 16 rfl rfl)
theorem dX0_cameOf_19 : decode cX0_cameOf 19 = .ok (.iconst 1, 1) := dk_4 (dk_at dksX0_cameOf_0 19 rfl rfl)
theorem dX0_cameOf_20 : decode cX0_cameOf 20 = .ok (.goto 35, 3) := dk_167 0 35 (dk_at dksX0_cameOf_0 20 rfl rfl)
theorem dX0_cameOf_23 : decode cX0_cameOf 23 = .ok (.iconst 0, 1) := dk_3 (dk_at dksX0_cameOf_0 23 rfl rfl)
theorem dX0_cameOf_24 : decode cX0_cameOf 24 = .ok (.goto 31, 3) := dk_167 0 31 (dk_at dksX0_cameOf_1 0 rfl rfl)
theorem dX0_cameOf_27 : decode cX0_cameOf 27 = .ok (.iload_n 2, 1) := dk_28 (dk_at dksX0_cameOf_1 3 rfl rfl)
theorem dX0_cameOf_28 : decode cX0_cameOf 28 = .ok (.iconst 1, 1) := dk_4 (dk_at dksX0_cameOf_1 4 rfl rfl)
theorem dX0_cameOf_29 : decode cX0_cameOf 29 = .ok (.if_icmp .ne 20, 3) := dk_160 0 20 (dk_at dksX0_cameOf_1 5 rfl rfl)
theorem dX0_cameOf_32 : decode cX0_cameOf 32 = .ok (.aload_n 0, 1) := dk_42 (dk_at dksX0_cameOf_1 8 rfl rfl)
theorem dX0_cameOf_33 : decode cX0_cameOf 33 = .ok (.getfield 155, 3) := dk_180 0 155 (dk_at dksX0_cameOf_1 9 rfl rfl)
theorem dX0_cameOf_36 : decode cX0_cameOf 36 = .ok (.iload_n 1, 1) := dk_27 (dk_at dksX0_cameOf_1 12 rfl rfl)
theorem dX0_cameOf_37 : decode cX0_cameOf 37 = .ok (.baload, 1) := dk_51 (dk_at dksX0_cameOf_1 13 rfl rfl)
theorem dX0_cameOf_38 : decode cX0_cameOf 38 = .ok (.ifCond .eq 7, 3) := dk_153 0 7 (dk_at dksX0_cameOf_1 14 rfl rfl)
theorem dX0_cameOf_41 : decode cX0_cameOf 41 = .ok (.iconst 1, 1) := dk_4 (dk_at dksX0_cameOf_1 17 rfl rfl)
theorem dX0_cameOf_42 : decode cX0_cameOf 42 = .ok (.goto 13, 3) := dk_167 0 13 (dk_at dksX0_cameOf_1 18 rfl rfl)
theorem dX0_cameOf_45 : decode cX0_cameOf 45 = .ok (.iconst 0, 1) := dk_3 (dk_at dksX0_cameOf_1 21 rfl rfl)
theorem dX0_cameOf_46 : decode cX0_cameOf 46 = .ok (.goto 9, 3) := dk_167 0 9 (dk_at dksX0_cameOf_2 0 rfl rfl)
theorem dX0_cameOf_49 : decode cX0_cameOf 49 = .ok (.aload_n 0, 1) := dk_42 (dk_at dksX0_cameOf_2 3 rfl rfl)
theorem dX0_cameOf_50 : decode cX0_cameOf 50 = .ok (.getfield 158, 3) := dk_180 0 158 (dk_at dksX0_cameOf_2 4 rfl rfl)
theorem dX0_cameOf_53 : decode cX0_cameOf 53 = .ok (.iload_n 1, 1) := dk_27 (dk_at dksX0_cameOf_2 7 rfl rfl)
theorem dX0_cameOf_54 : decode cX0_cameOf 54 = .ok (.iaload, 1) := dk_46 (dk_at dksX0_cameOf_2 8 rfl rfl)
theorem dX0_cameOf_55 : decode cX0_cameOf 55 = .ok (.ireturn, 1) := dk_172 (dk_at dksX0_cameOf_2 9 rfl rfl)
def dkwX0_interest_0 : List UInt8 := [27, 184, 0, 102, 153, 0, 11, 42, 27, 182, 0, 210, 167, 0, 6, 17, 252, 22, 172]
abbrev dktX0_interest_0 : List UInt8 := dkwX0_interest_0 ++ []
theorem dksX0_interest_0 : cX0_interest.data.toList.drop 0 = dktX0_interest_0 := by decide +kernel
theorem dX0_interest_0 : decode cX0_interest 0 = .ok (.iload_n 1, 1) := dk_27 (dk_at dksX0_interest_0 0 rfl rfl)
theorem dX0_interest_1 : decode cX0_interest 1 = .ok (.invokestatic 102, 3) := dk_184 0 102 (dk_at dksX0_interest_0 1 rfl rfl)
theorem dX0_interest_4 : decode cX0_interest 4 = .ok (.ifCond .eq 11, 3) := dk_153 0 11 (dk_at dksX0_interest_0 4 rfl rfl)
theorem dX0_interest_7 : decode cX0_interest 7 = .ok (.aload_n 0, 1) := dk_42 (dk_at dksX0_interest_0 7 rfl rfl)
theorem dX0_interest_8 : decode cX0_interest 8 = .ok (.iload_n 1, 1) := dk_27 (dk_at dksX0_interest_0 8 rfl rfl)
theorem dX0_interest_9 : decode cX0_interest 9 = .ok (.invokevirtual 210, 3) := dk_182 0 210 (dk_at dksX0_interest_0 9 rfl rfl)
theorem dX0_interest_12 : decode cX0_interest 12 = .ok (.goto 6, 3) := dk_167 0 6 (dk_at dksX0_interest_0 12 rfl rfl)
theorem dX0_interest_15 : decode cX0_interest 15 = .ok (.sipush (-1002), 3) := dk_17 252 22 (dk_at dksX0_interest_0 15 rfl rfl)
theorem dX0_interest_18 : decode cX0_interest 18 = .ok (.ireturn, 1) := dk_172 (dk_at dksX0_interest_0 18 rfl rfl)
def dkwX0_interestOf_1 : List UInt8 := [180, 0, 37, 42, 180, 0, 33, 29, 50, 180, 0, 37, 100, 96, 61, 132, 3, 1, 167, 255, 223, 28, 172]
abbrev dktX0_interestOf_1 : List UInt8 := dkwX0_interestOf_1 ++ []
def dkwX0_interestOf_0 : List UInt8 := [42, 27, 182, 0, 197, 3, 61, 3, 62, 29, 42, 180, 0, 25, 162, 0, 31, 28, 42, 180, 0, 141, 29, 50]
abbrev dktX0_interestOf_0 : List UInt8 := dkwX0_interestOf_0 ++ dktX0_interestOf_1
theorem dksX0_interestOf_0 : cX0_interestOf.data.toList.drop 0 = dktX0_interestOf_0 := by decide +kernel
theorem dksX0_interestOf_1 : cX0_interestOf.data.toList.drop 24 = dktX0_interestOf_1 := dk_seg dksX0_interestOf_0 24 rfl rfl
theorem dX0_interestOf_0 : decode cX0_interestOf 0 = .ok (.aload_n 0, 1) := dk_42 (dk_at dksX0_interestOf_0 0 rfl rfl)
theorem dX0_interestOf_1 : decode cX0_interestOf 1 = .ok (.iload_n 1, 1) := dk_27 (dk_at dksX0_interestOf_0 1 rfl rfl)
theorem dX0_interestOf_2 : decode cX0_interestOf 2 = .ok (.invokevirtual 197, 3) := dk_182 0 197 (dk_at dksX0_interestOf_0 2 rfl rfl)
theorem dX0_interestOf_5 : decode cX0_interestOf 5 = .ok (.iconst 0, 1) := dk_3 (dk_at dksX0_interestOf_0 5 rfl rfl)
theorem dX0_interestOf_6 : decode cX0_interestOf 6 = .ok (.istore_n 2, 1) := dk_61 (dk_at dksX0_interestOf_0 6 rfl rfl)
theorem dX0_interestOf_7 : decode cX0_interestOf 7 = .ok (.iconst 0, 1) := dk_3 (dk_at dksX0_interestOf_0 7 rfl rfl)
theorem dX0_interestOf_8 : decode cX0_interestOf 8 = .ok (.istore_n 3, 1) := dk_62 (dk_at dksX0_interestOf_0 8 rfl rfl)
theorem dX0_interestOf_9 : decode cX0_interestOf 9 = .ok (.iload_n 3, 1) := dk_29 (dk_at dksX0_interestOf_0 9 rfl rfl)
theorem dX0_interestOf_10 : decode cX0_interestOf 10 = .ok (.aload_n 0, 1) := dk_42 (dk_at dksX0_interestOf_0 10 rfl rfl)
theorem dX0_interestOf_11 : decode cX0_interestOf 11 = .ok (.getfield 25, 3) := dk_180 0 25 (dk_at dksX0_interestOf_0 11 rfl rfl)
theorem dX0_interestOf_14 : decode cX0_interestOf 14 = .ok (.if_icmp .ge 31, 3) := dk_162 0 31 (dk_at dksX0_interestOf_0 14 rfl rfl)
theorem dX0_interestOf_17 : decode cX0_interestOf 17 = .ok (.iload_n 2, 1) := dk_28 (dk_at dksX0_interestOf_0 17 rfl rfl)
theorem dX0_interestOf_18 : decode cX0_interestOf 18 = .ok (.aload_n 0, 1) := dk_42 (dk_at dksX0_interestOf_0 18 rfl rfl)
theorem dX0_interestOf_19 : decode cX0_interestOf 19 = .ok (.getfield 141, 3) := dk_180 0 141 (dk_at dksX0_interestOf_0 19 rfl rfl)
theorem dX0_interestOf_22 : decode cX0_interestOf 22 = .ok (.iload_n 3, 1) := dk_29 (dk_at dksX0_interestOf_0 22 rfl rfl)
theorem dX0_interestOf_23 : decode cX0_interestOf 23 = .ok (.aaload, 1) := dk_50 (dk_at dksX0_interestOf_0 23 rfl rfl)
theorem dX0_interestOf_24 : decode cX0_interestOf 24 = .ok (.getfield 37, 3) := dk_180 0 37 (dk_at dksX0_interestOf_1 0 rfl rfl)
theorem dX0_interestOf_27 : decode cX0_interestOf 27 = .ok (.aload_n 0, 1) := dk_42 (dk_at dksX0_interestOf_1 3 rfl rfl)
theorem dX0_interestOf_28 : decode cX0_interestOf 28 = .ok (.getfield 33, 3) := dk_180 0 33 (dk_at dksX0_interestOf_1 4 rfl rfl)
theorem dX0_interestOf_31 : decode cX0_interestOf 31 = .ok (.iload_n 3, 1) := dk_29 (dk_at dksX0_interestOf_1 7 rfl rfl)
theorem dX0_interestOf_32 : decode cX0_interestOf 32 = .ok (.aaload, 1) := dk_50 (dk_at dksX0_interestOf_1 8 rfl rfl)
theorem dX0_interestOf_33 : decode cX0_interestOf 33 = .ok (.getfield 37, 3) := dk_180 0 37 (dk_at dksX0_interestOf_1 9 rfl rfl)
theorem dX0_interestOf_36 : decode cX0_interestOf 36 = .ok (.isub, 1) := dk_100 (dk_at dksX0_interestOf_1 12 rfl rfl)
theorem dX0_interestOf_37 : decode cX0_interestOf 37 = .ok (.iadd, 1) := dk_96 (dk_at dksX0_interestOf_1 13 rfl rfl)
theorem dX0_interestOf_38 : decode cX0_interestOf 38 = .ok (.istore_n 2, 1) := dk_61 (dk_at dksX0_interestOf_1 14 rfl rfl)
theorem dX0_interestOf_39 : decode cX0_interestOf 39 = .ok (.iinc 3 1, 3) := dk_132 3 1 (dk_at dksX0_interestOf_1 15 rfl rfl)
theorem dX0_interestOf_42 : decode cX0_interestOf 42 = .ok (.goto (-33), 3) := dk_167 255 223 (dk_at dksX0_interestOf_1 18 rfl rfl)
theorem dX0_interestOf_45 : decode cX0_interestOf 45 = .ok (.iload_n 2, 1) := dk_28 (dk_at dksX0_interestOf_1 21 rfl rfl)
theorem dX0_interestOf_46 : decode cX0_interestOf 46 = .ok (.ireturn, 1) := dk_172 (dk_at dksX0_interestOf_1 22 rfl rfl)
def dkwX0_home_0 : List UInt8 := [27, 184, 0, 102, 153, 0, 11, 42, 27, 182, 0, 213, 167, 0, 5, 16, 254, 172]
abbrev dktX0_home_0 : List UInt8 := dkwX0_home_0 ++ []
theorem dksX0_home_0 : cX0_home.data.toList.drop 0 = dktX0_home_0 := by decide +kernel
theorem dX0_home_0 : decode cX0_home 0 = .ok (.iload_n 1, 1) := dk_27 (dk_at dksX0_home_0 0 rfl rfl)
theorem dX0_home_1 : decode cX0_home 1 = .ok (.invokestatic 102, 3) := dk_184 0 102 (dk_at dksX0_home_0 1 rfl rfl)
theorem dX0_home_4 : decode cX0_home 4 = .ok (.ifCond .eq 11, 3) := dk_153 0 11 (dk_at dksX0_home_0 4 rfl rfl)
theorem dX0_home_7 : decode cX0_home 7 = .ok (.aload_n 0, 1) := dk_42 (dk_at dksX0_home_0 7 rfl rfl)
theorem dX0_home_8 : decode cX0_home 8 = .ok (.iload_n 1, 1) := dk_27 (dk_at dksX0_home_0 8 rfl rfl)
theorem dX0_home_9 : decode cX0_home 9 = .ok (.invokevirtual 213, 3) := dk_182 0 213 (dk_at dksX0_home_0 9 rfl rfl)
theorem dX0_home_12 : decode cX0_home 12 = .ok (.goto 5, 3) := dk_167 0 5 (dk_at dksX0_home_0 12 rfl rfl)
theorem dX0_home_15 : decode cX0_home 15 = .ok (.bipush (-2), 2) := dk_16 254 (dk_at dksX0_home_0 15 rfl rfl)
theorem dX0_home_17 : decode cX0_home 17 = .ok (.ireturn, 1) := dk_172 (dk_at dksX0_home_0 17 rfl rfl)
def dkwX0_homeOf_3 : List UInt8 := [153, 0, 5, 28, 172, 132, 2, 1, 167, 255, 186, 2, 172]
abbrev dktX0_homeOf_3 : List UInt8 := dkwX0_homeOf_3 ++ []
def dkwX0_homeOf_2 : List UInt8 := [180, 0, 148, 21, 4, 46, 2, 160, 0, 7, 4, 167, 0, 4, 3, 62, 132, 4, 1, 167, 255, 223, 29]
abbrev dktX0_homeOf_2 : List UInt8 := dkwX0_homeOf_2 ++ dktX0_homeOf_3
def dkwX0_homeOf_1 : List UInt8 := [167, 0, 4, 3, 62, 3, 54, 4, 21, 4, 42, 180, 0, 25, 162, 0, 30, 29, 153, 0, 18, 42]
abbrev dktX0_homeOf_1 : List UInt8 := dkwX0_homeOf_1 ++ dktX0_homeOf_2
def dkwX0_homeOf_0 : List UInt8 := [42, 182, 0, 191, 3, 61, 28, 16, 40, 162, 0, 70, 42, 28, 182, 0, 194, 28, 27, 161, 0, 7, 4]
abbrev dktX0_homeOf_0 : List UInt8 := dkwX0_homeOf_0 ++ dktX0_homeOf_1
theorem dksX0_homeOf_0 : cX0_homeOf.data.toList.drop 0 = dktX0_homeOf_0 := by decide +kernel
theorem dksX0_homeOf_1 : cX0_homeOf.data.toList.drop 23 = dktX0_homeOf_1 := dk_seg dksX0_homeOf_0 23 rfl rfl
theorem dksX0_homeOf_2 : cX0_homeOf.data.toList.drop 45 = dktX0_homeOf_2 := dk_seg dksX0_homeOf_1 22 rfl rfl
theorem dksX0_homeOf_3 : cX0_homeOf.data.toList.drop 68 = dktX0_homeOf_3 := dk_seg dksX0_homeOf_2 23 rfl rfl
theorem dX0_homeOf_0 : decode cX0_homeOf 0 = .ok (.aload_n 0, 1) := dk_42 (dk_at dksX0_homeOf_0 0 rfl rfl)
theorem dX0_homeOf_1 : decode cX0_homeOf 1 = .ok (.invokevirtual 191, 3) := dk_182 0 191 (dk_at dksX0_homeOf_0 1 rfl rfl)
theorem dX0_homeOf_4 : decode cX0_homeOf 4 = .ok (.iconst 0, 1) := dk_3 (dk_at dksX0_homeOf_0 4 rfl rfl)
theorem dX0_homeOf_5 : decode cX0_homeOf 5 = .ok (.istore_n 2, 1) := dk_61 (dk_at dksX0_homeOf_0 5 rfl rfl)
theorem dX0_homeOf_6 : decode cX0_homeOf 6 = .ok (.iload_n 2, 1) := dk_28 (dk_at dksX0_homeOf_0 6 rfl rfl)
theorem dX0_homeOf_7 : decode cX0_homeOf 7 = .ok (.bipush 40, 2) := dk_16 40 (dk_at dksX0_homeOf_0 7 rfl rfl)
theorem dX0_homeOf_9 : decode cX0_homeOf 9 = .ok (.if_icmp .ge 70, 3) := dk_162 0 70 (dk_at dksX0_homeOf_0 9 rfl rfl)
theorem dX0_homeOf_12 : decode cX0_homeOf 12 = .ok (.aload_n 0, 1) := dk_42 (dk_at dksX0_homeOf_0 12 rfl rfl)
theorem dX0_homeOf_13 : decode cX0_homeOf 13 = .ok (.iload_n 2, 1) := dk_28 (dk_at dksX0_homeOf_0 13 rfl rfl)
theorem dX0_homeOf_14 : decode cX0_homeOf 14 = .ok (.invokevirtual 194, 3) := dk_182 0 194 (dk_at dksX0_homeOf_0 14 rfl rfl)
theorem dX0_homeOf_17 : decode cX0_homeOf 17 = .ok (.iload_n 2, 1) := dk_28 (dk_at dksX0_homeOf_0 17 rfl rfl)
theorem dX0_homeOf_18 : decode cX0_homeOf 18 = .ok (.iload_n 1, 1) := dk_27 (dk_at dksX0_homeOf_0 18 rfl rfl)
theorem dX0_homeOf_19 : decode cX0_homeOf 19 = .ok (.if_icmp .lt 7, 3) := dk_161 0 7 (dk_at dksX0_homeOf_0 19 rfl rfl)
theorem dX0_homeOf_22 : decode cX0_homeOf 22 = .ok (.iconst 1, 1) := dk_4 (dk_at dksX0_homeOf_0 22 rfl rfl)
theorem dX0_homeOf_23 : decode cX0_homeOf 23 = .ok (.goto 4, 3) := dk_167 0 4 (dk_at dksX0_homeOf_1 0 rfl rfl)
theorem dX0_homeOf_26 : decode cX0_homeOf 26 = .ok (.iconst 0, 1) := dk_3 (dk_at dksX0_homeOf_1 3 rfl rfl)
theorem dX0_homeOf_27 : decode cX0_homeOf 27 = .ok (.istore_n 3, 1) := dk_62 (dk_at dksX0_homeOf_1 4 rfl rfl)
theorem dX0_homeOf_28 : decode cX0_homeOf 28 = .ok (.iconst 0, 1) := dk_3 (dk_at dksX0_homeOf_1 5 rfl rfl)
theorem dX0_homeOf_29 : decode cX0_homeOf 29 = .ok (.istore 4, 2) := dk_54 4 (dk_at dksX0_homeOf_1 6 rfl rfl)
theorem dX0_homeOf_31 : decode cX0_homeOf 31 = .ok (.iload 4, 2) := dk_21 4 (dk_at dksX0_homeOf_1 8 rfl rfl)
theorem dX0_homeOf_33 : decode cX0_homeOf 33 = .ok (.aload_n 0, 1) := dk_42 (dk_at dksX0_homeOf_1 10 rfl rfl)
theorem dX0_homeOf_34 : decode cX0_homeOf 34 = .ok (.getfield 25, 3) := dk_180 0 25 (dk_at dksX0_homeOf_1 11 rfl rfl)
theorem dX0_homeOf_37 : decode cX0_homeOf 37 = .ok (.if_icmp .ge 30, 3) := dk_162 0 30 (dk_at dksX0_homeOf_1 14 rfl rfl)
theorem dX0_homeOf_40 : decode cX0_homeOf 40 = .ok (.iload_n 3, 1) := dk_29 (dk_at dksX0_homeOf_1 17 rfl rfl)
theorem dX0_homeOf_41 : decode cX0_homeOf 41 = .ok (.ifCond .eq 18, 3) := dk_153 0 18 (dk_at dksX0_homeOf_1 18 rfl rfl)
theorem dX0_homeOf_44 : decode cX0_homeOf 44 = .ok (.aload_n 0, 1) := dk_42 (dk_at dksX0_homeOf_1 21 rfl rfl)
theorem dX0_homeOf_45 : decode cX0_homeOf 45 = .ok (.getfield 148, 3) := dk_180 0 148 (dk_at dksX0_homeOf_2 0 rfl rfl)
theorem dX0_homeOf_48 : decode cX0_homeOf 48 = .ok (.iload 4, 2) := dk_21 4 (dk_at dksX0_homeOf_2 3 rfl rfl)
theorem dX0_homeOf_50 : decode cX0_homeOf 50 = .ok (.iaload, 1) := dk_46 (dk_at dksX0_homeOf_2 5 rfl rfl)
theorem dX0_homeOf_51 : decode cX0_homeOf 51 = .ok (.iconst (-1), 1) := dk_2 (dk_at dksX0_homeOf_2 6 rfl rfl)
theorem dX0_homeOf_52 : decode cX0_homeOf 52 = .ok (.if_icmp .ne 7, 3) := dk_160 0 7 (dk_at dksX0_homeOf_2 7 rfl rfl)
theorem dX0_homeOf_55 : decode cX0_homeOf 55 = .ok (.iconst 1, 1) := dk_4 (dk_at dksX0_homeOf_2 10 rfl rfl)
theorem dX0_homeOf_56 : decode cX0_homeOf 56 = .ok (.goto 4, 3) := dk_167 0 4 (dk_at dksX0_homeOf_2 11 rfl rfl)
theorem dX0_homeOf_59 : decode cX0_homeOf 59 = .ok (.iconst 0, 1) := dk_3 (dk_at dksX0_homeOf_2 14 rfl rfl)
theorem dX0_homeOf_60 : decode cX0_homeOf 60 = .ok (.istore_n 3, 1) := dk_62 (dk_at dksX0_homeOf_2 15 rfl rfl)
theorem dX0_homeOf_61 : decode cX0_homeOf 61 = .ok (.iinc 4 1, 3) := dk_132 4 1 (dk_at dksX0_homeOf_2 16 rfl rfl)
theorem dX0_homeOf_64 : decode cX0_homeOf 64 = .ok (.goto (-33), 3) := dk_167 255 223 (dk_at dksX0_homeOf_2 19 rfl rfl)
theorem dX0_homeOf_67 : decode cX0_homeOf 67 = .ok (.iload_n 3, 1) := dk_29 (dk_at dksX0_homeOf_2 22 rfl rfl)
theorem dX0_homeOf_68 : decode cX0_homeOf 68 = .ok (.ifCond .eq 5, 3) := dk_153 0 5 (dk_at dksX0_homeOf_3 0 rfl rfl)
theorem dX0_homeOf_71 : decode cX0_homeOf 71 = .ok (.iload_n 2, 1) := dk_28 (dk_at dksX0_homeOf_3 3 rfl rfl)
theorem dX0_homeOf_72 : decode cX0_homeOf 72 = .ok (.ireturn, 1) := dk_172 (dk_at dksX0_homeOf_3 4 rfl rfl)
theorem dX0_homeOf_73 : decode cX0_homeOf 73 = .ok (.iinc 2 1, 3) := dk_132 2 1 (dk_at dksX0_homeOf_3 5 rfl rfl)
theorem dX0_homeOf_76 : decode cX0_homeOf 76 = .ok (.goto (-70), 3) := dk_167 255 186 (dk_at dksX0_homeOf_3 8 rfl rfl)
theorem dX0_homeOf_79 : decode cX0_homeOf 79 = .ok (.iconst (-1), 1) := dk_2 (dk_at dksX0_homeOf_3 11 rfl rfl)
theorem dX0_homeOf_80 : decode cX0_homeOf 80 = .ok (.ireturn, 1) := dk_172 (dk_at dksX0_homeOf_3 12 rfl rfl)
def dkwX0_lend_1 : List UInt8 := [153, 0, 13, 42, 27, 28, 29, 182, 0, 235, 167, 0, 5, 16, 254, 172]
abbrev dktX0_lend_1 : List UInt8 := dkwX0_lend_1 ++ []
def dkwX0_lend_0 : List UInt8 := [42, 27, 182, 0, 86, 153, 0, 32, 28, 3, 16, 127, 184, 0, 5, 153, 0, 22, 29, 2, 5, 184, 0, 5]
abbrev dktX0_lend_0 : List UInt8 := dkwX0_lend_0 ++ dktX0_lend_1
theorem dksX0_lend_0 : cX0_lend.data.toList.drop 0 = dktX0_lend_0 := by decide +kernel
theorem dksX0_lend_1 : cX0_lend.data.toList.drop 24 = dktX0_lend_1 := dk_seg dksX0_lend_0 24 rfl rfl
theorem dX0_lend_0 : decode cX0_lend 0 = .ok (.aload_n 0, 1) := dk_42 (dk_at dksX0_lend_0 0 rfl rfl)
theorem dX0_lend_1 : decode cX0_lend 1 = .ok (.iload_n 1, 1) := dk_27 (dk_at dksX0_lend_0 1 rfl rfl)
theorem dX0_lend_2 : decode cX0_lend 2 = .ok (.invokevirtual 86, 3) := dk_182 0 86 (dk_at dksX0_lend_0 2 rfl rfl)
theorem dX0_lend_5 : decode cX0_lend 5 = .ok (.ifCond .eq 32, 3) := dk_153 0 32 (dk_at dksX0_lend_0 5 rfl rfl)
theorem dX0_lend_8 : decode cX0_lend 8 = .ok (.iload_n 2, 1) := dk_28 (dk_at dksX0_lend_0 8 rfl rfl)
theorem dX0_lend_9 : decode cX0_lend 9 = .ok (.iconst 0, 1) := dk_3 (dk_at dksX0_lend_0 9 rfl rfl)
theorem dX0_lend_10 : decode cX0_lend 10 = .ok (.bipush 127, 2) := dk_16 127 (dk_at dksX0_lend_0 10 rfl rfl)
theorem dX0_lend_12 : decode cX0_lend 12 = .ok (.invokestatic 5, 3) := dk_184 0 5 (dk_at dksX0_lend_0 12 rfl rfl)
theorem dX0_lend_15 : decode cX0_lend 15 = .ok (.ifCond .eq 22, 3) := dk_153 0 22 (dk_at dksX0_lend_0 15 rfl rfl)
theorem dX0_lend_18 : decode cX0_lend 18 = .ok (.iload_n 3, 1) := dk_29 (dk_at dksX0_lend_0 18 rfl rfl)
theorem dX0_lend_19 : decode cX0_lend 19 = .ok (.iconst (-1), 1) := dk_2 (dk_at dksX0_lend_0 19 rfl rfl)
theorem dX0_lend_20 : decode cX0_lend 20 = .ok (.iconst 2, 1) := dk_5 (dk_at dksX0_lend_0 20 rfl rfl)
theorem dX0_lend_21 : decode cX0_lend 21 = .ok (.invokestatic 5, 3) := dk_184 0 5 (dk_at dksX0_lend_0 21 rfl rfl)
theorem dX0_lend_24 : decode cX0_lend 24 = .ok (.ifCond .eq 13, 3) := dk_153 0 13 (dk_at dksX0_lend_1 0 rfl rfl)
theorem dX0_lend_27 : decode cX0_lend 27 = .ok (.aload_n 0, 1) := dk_42 (dk_at dksX0_lend_1 3 rfl rfl)
theorem dX0_lend_28 : decode cX0_lend 28 = .ok (.iload_n 1, 1) := dk_27 (dk_at dksX0_lend_1 4 rfl rfl)
theorem dX0_lend_29 : decode cX0_lend 29 = .ok (.iload_n 2, 1) := dk_28 (dk_at dksX0_lend_1 5 rfl rfl)
theorem dX0_lend_30 : decode cX0_lend 30 = .ok (.iload_n 3, 1) := dk_29 (dk_at dksX0_lend_1 6 rfl rfl)
theorem dX0_lend_31 : decode cX0_lend 31 = .ok (.invokevirtual 235, 3) := dk_182 0 235 (dk_at dksX0_lend_1 7 rfl rfl)
theorem dX0_lend_34 : decode cX0_lend 34 = .ok (.goto 5, 3) := dk_167 0 5 (dk_at dksX0_lend_1 10 rfl rfl)
theorem dX0_lend_37 : decode cX0_lend 37 = .ok (.bipush (-2), 2) := dk_16 254 (dk_at dksX0_lend_1 13 rfl rfl)
theorem dX0_lend_39 : decode cX0_lend 39 = .ok (.ireturn, 1) := dk_172 (dk_at dksX0_lend_1 15 rfl rfl)
def dkwX0_lendOf_3 : List UInt8 := [29, 182, 0, 232, 167, 0, 4, 2, 172, 132, 5, 1, 167, 255, 184, 132, 4, 1, 167, 255, 169, 2, 172]
abbrev dktX0_lendOf_3 : List UInt8 := dkwX0_lendOf_3 ++ []
def dkwX0_lendOf_2 : List UInt8 := [154, 0, 33, 29, 2, 160, 0, 8, 21, 4, 167, 0, 22, 29, 21, 4, 162, 0, 15, 42, 21, 5, 21, 4]
abbrev dktX0_lendOf_2 : List UInt8 := dkwX0_lendOf_2 ++ dktX0_lendOf_3
def dkwX0_lendOf_1 : List UInt8 := [42, 180, 0, 33, 27, 50, 21, 4, 21, 5, 182, 0, 225, 28, 42, 180, 0, 216, 182, 0, 229, 2, 130, 126]
abbrev dktX0_lendOf_1 : List UInt8 := dkwX0_lendOf_1 ++ dktX0_lendOf_2
def dkwX0_lendOf_0 : List UInt8 := [3, 54, 4, 21, 4, 6, 163, 0, 87, 3, 54, 5, 21, 5, 42, 21, 4, 182, 0, 222, 162, 0, 67, 42]
abbrev dktX0_lendOf_0 : List UInt8 := dkwX0_lendOf_0 ++ dktX0_lendOf_1
theorem dksX0_lendOf_0 : cX0_lendOf.data.toList.drop 0 = dktX0_lendOf_0 := by decide +kernel
theorem dksX0_lendOf_1 : cX0_lendOf.data.toList.drop 24 = dktX0_lendOf_1 := dk_seg dksX0_lendOf_0 24 rfl rfl
theorem dksX0_lendOf_2 : cX0_lendOf.data.toList.drop 48 = dktX0_lendOf_2 := dk_seg dksX0_lendOf_1 24 rfl rfl
theorem dksX0_lendOf_3 : cX0_lendOf.data.toList.drop 72 = dktX0_lendOf_3 := dk_seg dksX0_lendOf_2 24 rfl rfl
theorem dX0_lendOf_0 : decode cX0_lendOf 0 = .ok (.iconst 0, 1) := dk_3 (dk_at dksX0_lendOf_0 0 rfl rfl)
theorem dX0_lendOf_1 : decode cX0_lendOf 1 = .ok (.istore 4, 2) := dk_54 4 (dk_at dksX0_lendOf_0 1 rfl rfl)
theorem dX0_lendOf_3 : decode cX0_lendOf 3 = .ok (.iload 4, 2) := dk_21 4 (dk_at dksX0_lendOf_0 3 rfl rfl)
theorem dX0_lendOf_5 : decode cX0_lendOf 5 = .ok (.iconst 3, 1) := dk_6 (dk_at dksX0_lendOf_0 5 rfl rfl)
theorem dX0_lendOf_6 : decode cX0_lendOf 6 = .ok (.if_icmp .gt 87, 3) := dk_163 0 87 (dk_at dksX0_lendOf_0 6 rfl rfl)
theorem dX0_lendOf_9 : decode cX0_lendOf 9 = .ok (.iconst 0, 1) := dk_3 (dk_at dksX0_lendOf_0 9 rfl rfl)
theorem dX0_lendOf_10 : decode cX0_lendOf 10 = .ok (.istore 5, 2) := dk_54 5 (dk_at dksX0_lendOf_0 10 rfl rfl)
theorem dX0_lendOf_12 : decode cX0_lendOf 12 = .ok (.iload 5, 2) := dk_21 5 (dk_at dksX0_lendOf_0 12 rfl rfl)
theorem dX0_lendOf_14 : decode cX0_lendOf 14 = .ok (.aload_n 0, 1) := dk_42 (dk_at dksX0_lendOf_0 14 rfl rfl)
theorem dX0_lendOf_15 : decode cX0_lendOf 15 = .ok (.iload 4, 2) := dk_21 4 (dk_at dksX0_lendOf_0 15 rfl rfl)
theorem dX0_lendOf_17 : decode cX0_lendOf 17 = .ok (.invokevirtual 222, 3) := dk_182 0 222 (dk_at dksX0_lendOf_0 17 rfl rfl)
theorem dX0_lendOf_20 : decode cX0_lendOf 20 = .ok (.if_icmp .ge 67, 3) := dk_162 0 67 (dk_at dksX0_lendOf_0 20 rfl rfl)
theorem dX0_lendOf_23 : decode cX0_lendOf 23 = .ok (.aload_n 0, 1) := dk_42 (dk_at dksX0_lendOf_0 23 rfl rfl)
theorem dX0_lendOf_24 : decode cX0_lendOf 24 = .ok (.aload_n 0, 1) := dk_42 (dk_at dksX0_lendOf_1 0 rfl rfl)
theorem dX0_lendOf_25 : decode cX0_lendOf 25 = .ok (.getfield 33, 3) := dk_180 0 33 (dk_at dksX0_lendOf_1 1 rfl rfl)
theorem dX0_lendOf_28 : decode cX0_lendOf 28 = .ok (.iload_n 1, 1) := dk_27 (dk_at dksX0_lendOf_1 4 rfl rfl)
theorem dX0_lendOf_29 : decode cX0_lendOf 29 = .ok (.aaload, 1) := dk_50 (dk_at dksX0_lendOf_1 5 rfl rfl)
theorem dX0_lendOf_30 : decode cX0_lendOf 30 = .ok (.iload 4, 2) := dk_21 4 (dk_at dksX0_lendOf_1 6 rfl rfl)
theorem dX0_lendOf_32 : decode cX0_lendOf 32 = .ok (.iload 5, 2) := dk_21 5 (dk_at dksX0_lendOf_1 8 rfl rfl)
theorem dX0_lendOf_34 : decode cX0_lendOf 34 = .ok (.invokevirtual 225, 3) := dk_182 0 225 (dk_at dksX0_lendOf_1 10 rfl rfl)
theorem dX0_lendOf_37 : decode cX0_lendOf 37 = .ok (.iload_n 2, 1) := dk_28 (dk_at dksX0_lendOf_1 13 rfl rfl)
theorem dX0_lendOf_38 : decode cX0_lendOf 38 = .ok (.aload_n 0, 1) := dk_42 (dk_at dksX0_lendOf_1 14 rfl rfl)
theorem dX0_lendOf_39 : decode cX0_lendOf 39 = .ok (.getfield 216, 3) := dk_180 0 216 (dk_at dksX0_lendOf_1 15 rfl rfl)
theorem dX0_lendOf_42 : decode cX0_lendOf 42 = .ok (.invokevirtual 229, 3) := dk_182 0 229 (dk_at dksX0_lendOf_1 18 rfl rfl)
theorem dX0_lendOf_45 : decode cX0_lendOf 45 = .ok (.iconst (-1), 1) := dk_2 (dk_at dksX0_lendOf_1 21 rfl rfl)
theorem dX0_lendOf_46 : decode cX0_lendOf 46 = .ok (.ixor, 1) := dk_130 (dk_at dksX0_lendOf_1 22 rfl rfl)
theorem dX0_lendOf_47 : decode cX0_lendOf 47 = .ok (.iand, 1) := dk_126 (dk_at dksX0_lendOf_1 23 rfl rfl)
theorem dX0_lendOf_48 : decode cX0_lendOf 48 = .ok (.ifCond .ne 33, 3) := dk_154 0 33 (dk_at dksX0_lendOf_2 0 rfl rfl)
theorem dX0_lendOf_51 : decode cX0_lendOf 51 = .ok (.iload_n 3, 1) := dk_29 (dk_at dksX0_lendOf_2 3 rfl rfl)
theorem dX0_lendOf_52 : decode cX0_lendOf 52 = .ok (.iconst (-1), 1) := dk_2 (dk_at dksX0_lendOf_2 4 rfl rfl)
theorem dX0_lendOf_53 : decode cX0_lendOf 53 = .ok (.if_icmp .ne 8, 3) := dk_160 0 8 (dk_at dksX0_lendOf_2 5 rfl rfl)
theorem dX0_lendOf_56 : decode cX0_lendOf 56 = .ok (.iload 4, 2) := dk_21 4 (dk_at dksX0_lendOf_2 8 rfl rfl)
theorem dX0_lendOf_58 : decode cX0_lendOf 58 = .ok (.goto 22, 3) := dk_167 0 22 (dk_at dksX0_lendOf_2 10 rfl rfl)
theorem dX0_lendOf_61 : decode cX0_lendOf 61 = .ok (.iload_n 3, 1) := dk_29 (dk_at dksX0_lendOf_2 13 rfl rfl)
theorem dX0_lendOf_62 : decode cX0_lendOf 62 = .ok (.iload 4, 2) := dk_21 4 (dk_at dksX0_lendOf_2 14 rfl rfl)
theorem dX0_lendOf_64 : decode cX0_lendOf 64 = .ok (.if_icmp .ge 15, 3) := dk_162 0 15 (dk_at dksX0_lendOf_2 16 rfl rfl)
theorem dX0_lendOf_67 : decode cX0_lendOf 67 = .ok (.aload_n 0, 1) := dk_42 (dk_at dksX0_lendOf_2 19 rfl rfl)
theorem dX0_lendOf_68 : decode cX0_lendOf 68 = .ok (.iload 5, 2) := dk_21 5 (dk_at dksX0_lendOf_2 20 rfl rfl)
theorem dX0_lendOf_70 : decode cX0_lendOf 70 = .ok (.iload 4, 2) := dk_21 4 (dk_at dksX0_lendOf_2 22 rfl rfl)
theorem dX0_lendOf_72 : decode cX0_lendOf 72 = .ok (.iload_n 3, 1) := dk_29 (dk_at dksX0_lendOf_3 0 rfl rfl)
theorem dX0_lendOf_73 : decode cX0_lendOf 73 = .ok (.invokevirtual 232, 3) := dk_182 0 232 (dk_at dksX0_lendOf_3 1 rfl rfl)
theorem dX0_lendOf_76 : decode cX0_lendOf 76 = .ok (.goto 4, 3) := dk_167 0 4 (dk_at dksX0_lendOf_3 4 rfl rfl)
theorem dX0_lendOf_79 : decode cX0_lendOf 79 = .ok (.iconst (-1), 1) := dk_2 (dk_at dksX0_lendOf_3 7 rfl rfl)
theorem dX0_lendOf_80 : decode cX0_lendOf 80 = .ok (.ireturn, 1) := dk_172 (dk_at dksX0_lendOf_3 8 rfl rfl)
theorem dX0_lendOf_81 : decode cX0_lendOf 81 = .ok (.iinc 5 1, 3) := dk_132 5 1 (dk_at dksX0_lendOf_3 9 rfl rfl)
theorem dX0_lendOf_84 : decode cX0_lendOf 84 = .ok (.goto (-72), 3) := dk_167 255 184 (dk_at dksX0_lendOf_3 12 rfl rfl)
theorem dX0_lendOf_87 : decode cX0_lendOf 87 = .ok (.iinc 4 1, 3) := dk_132 4 1 (dk_at dksX0_lendOf_3 15 rfl rfl)
theorem dX0_lendOf_90 : decode cX0_lendOf 90 = .ok (.goto (-87), 3) := dk_167 255 169 (dk_at dksX0_lendOf_3 18 rfl rfl)
theorem dX0_lendOf_93 : decode cX0_lendOf 93 = .ok (.iconst (-1), 1) := dk_2 (dk_at dksX0_lendOf_3 21 rfl rfl)
theorem dX0_lendOf_94 : decode cX0_lendOf 94 = .ok (.ireturn, 1) := dk_172 (dk_at dksX0_lendOf_3 22 rfl rfl)
def dkwX0_rowsOf_0 : List UInt8 := [4, 61, 3, 62, 29, 27, 162, 0, 16, 28, 42, 180, 0, 46, 104, 61, 132, 3, 1, 167, 255, 241, 28, 172]
abbrev dktX0_rowsOf_0 : List UInt8 := dkwX0_rowsOf_0 ++ []
theorem dksX0_rowsOf_0 : cX0_rowsOf.data.toList.drop 0 = dktX0_rowsOf_0 := by decide +kernel
theorem dX0_rowsOf_0 : decode cX0_rowsOf 0 = .ok (.iconst 1, 1) := dk_4 (dk_at dksX0_rowsOf_0 0 rfl rfl)
theorem dX0_rowsOf_1 : decode cX0_rowsOf 1 = .ok (.istore_n 2, 1) := dk_61 (dk_at dksX0_rowsOf_0 1 rfl rfl)
theorem dX0_rowsOf_2 : decode cX0_rowsOf 2 = .ok (.iconst 0, 1) := dk_3 (dk_at dksX0_rowsOf_0 2 rfl rfl)
theorem dX0_rowsOf_3 : decode cX0_rowsOf 3 = .ok (.istore_n 3, 1) := dk_62 (dk_at dksX0_rowsOf_0 3 rfl rfl)
theorem dX0_rowsOf_4 : decode cX0_rowsOf 4 = .ok (.iload_n 3, 1) := dk_29 (dk_at dksX0_rowsOf_0 4 rfl rfl)
theorem dX0_rowsOf_5 : decode cX0_rowsOf 5 = .ok (.iload_n 1, 1) := dk_27 (dk_at dksX0_rowsOf_0 5 rfl rfl)
theorem dX0_rowsOf_6 : decode cX0_rowsOf 6 = .ok (.if_icmp .ge 16, 3) := dk_162 0 16 (dk_at dksX0_rowsOf_0 6 rfl rfl)
theorem dX0_rowsOf_9 : decode cX0_rowsOf 9 = .ok (.iload_n 2, 1) := dk_28 (dk_at dksX0_rowsOf_0 9 rfl rfl)
theorem dX0_rowsOf_10 : decode cX0_rowsOf 10 = .ok (.aload_n 0, 1) := dk_42 (dk_at dksX0_rowsOf_0 10 rfl rfl)
theorem dX0_rowsOf_11 : decode cX0_rowsOf 11 = .ok (.getfield 46, 3) := dk_180 0 46 (dk_at dksX0_rowsOf_0 11 rfl rfl)
theorem dX0_rowsOf_14 : decode cX0_rowsOf 14 = .ok (.imul, 1) := dk_104 (dk_at dksX0_rowsOf_0 14 rfl rfl)
theorem dX0_rowsOf_15 : decode cX0_rowsOf 15 = .ok (.istore_n 2, 1) := dk_61 (dk_at dksX0_rowsOf_0 15 rfl rfl)
theorem dX0_rowsOf_16 : decode cX0_rowsOf 16 = .ok (.iinc 3 1, 3) := dk_132 3 1 (dk_at dksX0_rowsOf_0 16 rfl rfl)
theorem dX0_rowsOf_19 : decode cX0_rowsOf 19 = .ok (.goto (-15), 3) := dk_167 255 241 (dk_at dksX0_rowsOf_0 19 rfl rfl)
theorem dX0_rowsOf_22 : decode cX0_rowsOf 22 = .ok (.iload_n 2, 1) := dk_28 (dk_at dksX0_rowsOf_0 22 rfl rfl)
theorem dX0_rowsOf_23 : decode cX0_rowsOf 23 = .ok (.ireturn, 1) := dk_172 (dk_at dksX0_rowsOf_0 23 rfl rfl)
def dkwX0_turns_3 : List UInt8 := [180, 0, 46, 184, 0, 219, 108, 54, 4, 132, 5, 1, 167, 255, 212, 177]
abbrev dktX0_turns_3 : List UInt8 := dkwX0_turns_3 ++ []
def dkwX0_turns_2 : List UInt8 := [180, 0, 49, 29, 21, 4, 108, 42, 180, 0, 46, 112, 50, 42, 180, 0, 216, 182, 0, 184, 21, 4, 4, 42]
abbrev dktX0_turns_2 : List UInt8 := dkwX0_turns_2 ++ dktX0_turns_3
def dkwX0_turns_1 : List UInt8 := [180, 0, 46, 104, 54, 4, 132, 5, 1, 167, 255, 238, 3, 54, 5, 21, 5, 28, 162, 0, 44, 42, 42]
abbrev dktX0_turns_1 : List UInt8 := dkwX0_turns_1 ++ dktX0_turns_2
def dkwX0_turns_0 : List UInt8 := [42, 180, 0, 216, 43, 182, 0, 144, 4, 54, 4, 4, 54, 5, 21, 5, 28, 162, 0, 18, 21, 4, 42]
abbrev dktX0_turns_0 : List UInt8 := dkwX0_turns_0 ++ dktX0_turns_1
theorem dksX0_turns_0 : cX0_turns.data.toList.drop 0 = dktX0_turns_0 := by decide +kernel
theorem dksX0_turns_1 : cX0_turns.data.toList.drop 23 = dktX0_turns_1 := dk_seg dksX0_turns_0 23 rfl rfl
theorem dksX0_turns_2 : cX0_turns.data.toList.drop 46 = dktX0_turns_2 := dk_seg dksX0_turns_1 23 rfl rfl
theorem dksX0_turns_3 : cX0_turns.data.toList.drop 70 = dktX0_turns_3 := dk_seg dksX0_turns_2 24 rfl rfl
theorem dX0_turns_0 : decode cX0_turns 0 = .ok (.aload_n 0, 1) := dk_42 (dk_at dksX0_turns_0 0 rfl rfl)
theorem dX0_turns_1 : decode cX0_turns 1 = .ok (.getfield 216, 3) := dk_180 0 216 (dk_at dksX0_turns_0 1 rfl rfl)
theorem dX0_turns_4 : decode cX0_turns 4 = .ok (.aload_n 1, 1) := dk_43 (dk_at dksX0_turns_0 4 rfl rfl)
theorem dX0_turns_5 : decode cX0_turns 5 = .ok (.invokevirtual 144, 3) := dk_182 0 144 (dk_at dksX0_turns_0 5 rfl rfl)
theorem dX0_turns_8 : decode cX0_turns 8 = .ok (.iconst 1, 1) := dk_4 (dk_at dksX0_turns_0 8 rfl rfl)
theorem dX0_turns_9 : decode cX0_turns 9 = .ok (.istore 4, 2) := dk_54 4 (dk_at dksX0_turns_0 9 rfl rfl)
theorem dX0_turns_11 : decode cX0_turns 11 = .ok (.iconst 1, 1) := dk_4 (dk_at dksX0_turns_0 11 rfl rfl)
theorem dX0_turns_12 : decode cX0_turns 12 = .ok (.istore 5, 2) := dk_54 5 (dk_at dksX0_turns_0 12 rfl rfl)
theorem dX0_turns_14 : decode cX0_turns 14 = .ok (.iload 5, 2) := dk_21 5 (dk_at dksX0_turns_0 14 rfl rfl)
theorem dX0_turns_16 : decode cX0_turns 16 = .ok (.iload_n 2, 1) := dk_28 (dk_at dksX0_turns_0 16 rfl rfl)
theorem dX0_turns_17 : decode cX0_turns 17 = .ok (.if_icmp .ge 18, 3) := dk_162 0 18 (dk_at dksX0_turns_0 17 rfl rfl)
theorem dX0_turns_20 : decode cX0_turns 20 = .ok (.iload 4, 2) := dk_21 4 (dk_at dksX0_turns_0 20 rfl rfl)
theorem dX0_turns_22 : decode cX0_turns 22 = .ok (.aload_n 0, 1) := dk_42 (dk_at dksX0_turns_0 22 rfl rfl)
theorem dX0_turns_23 : decode cX0_turns 23 = .ok (.getfield 46, 3) := dk_180 0 46 (dk_at dksX0_turns_1 0 rfl rfl)
theorem dX0_turns_26 : decode cX0_turns 26 = .ok (.imul, 1) := dk_104 (dk_at dksX0_turns_1 3 rfl rfl)
theorem dX0_turns_27 : decode cX0_turns 27 = .ok (.istore 4, 2) := dk_54 4 (dk_at dksX0_turns_1 4 rfl rfl)
theorem dX0_turns_29 : decode cX0_turns 29 = .ok (.iinc 5 1, 3) := dk_132 5 1 (dk_at dksX0_turns_1 6 rfl rfl)
theorem dX0_turns_32 : decode cX0_turns 32 = .ok (.goto (-18), 3) := dk_167 255 238 (dk_at dksX0_turns_1 9 rfl rfl)
theorem dX0_turns_35 : decode cX0_turns 35 = .ok (.iconst 0, 1) := dk_3 (dk_at dksX0_turns_1 12 rfl rfl)
theorem dX0_turns_36 : decode cX0_turns 36 = .ok (.istore 5, 2) := dk_54 5 (dk_at dksX0_turns_1 13 rfl rfl)
theorem dX0_turns_38 : decode cX0_turns 38 = .ok (.iload 5, 2) := dk_21 5 (dk_at dksX0_turns_1 15 rfl rfl)
theorem dX0_turns_40 : decode cX0_turns 40 = .ok (.iload_n 2, 1) := dk_28 (dk_at dksX0_turns_1 17 rfl rfl)
theorem dX0_turns_41 : decode cX0_turns 41 = .ok (.if_icmp .ge 44, 3) := dk_162 0 44 (dk_at dksX0_turns_1 18 rfl rfl)
theorem dX0_turns_44 : decode cX0_turns 44 = .ok (.aload_n 0, 1) := dk_42 (dk_at dksX0_turns_1 21 rfl rfl)
theorem dX0_turns_45 : decode cX0_turns 45 = .ok (.aload_n 0, 1) := dk_42 (dk_at dksX0_turns_1 22 rfl rfl)
theorem dX0_turns_46 : decode cX0_turns 46 = .ok (.getfield 49, 3) := dk_180 0 49 (dk_at dksX0_turns_2 0 rfl rfl)
theorem dX0_turns_49 : decode cX0_turns 49 = .ok (.iload_n 3, 1) := dk_29 (dk_at dksX0_turns_2 3 rfl rfl)
theorem dX0_turns_50 : decode cX0_turns 50 = .ok (.iload 4, 2) := dk_21 4 (dk_at dksX0_turns_2 4 rfl rfl)
theorem dX0_turns_52 : decode cX0_turns 52 = .ok (.idiv, 1) := dk_108 (dk_at dksX0_turns_2 6 rfl rfl)
theorem dX0_turns_53 : decode cX0_turns 53 = .ok (.aload_n 0, 1) := dk_42 (dk_at dksX0_turns_2 7 rfl rfl)
theorem dX0_turns_54 : decode cX0_turns 54 = .ok (.getfield 46, 3) := dk_180 0 46 (dk_at dksX0_turns_2 8 rfl rfl)
theorem dX0_turns_57 : decode cX0_turns 57 = .ok (.irem, 1) := dk_112 (dk_at dksX0_turns_2 11 rfl rfl)
theorem dX0_turns_58 : decode cX0_turns 58 = .ok (.aaload, 1) := dk_50 (dk_at dksX0_turns_2 12 rfl rfl)
theorem dX0_turns_59 : decode cX0_turns 59 = .ok (.aload_n 0, 1) := dk_42 (dk_at dksX0_turns_2 13 rfl rfl)
theorem dX0_turns_60 : decode cX0_turns 60 = .ok (.getfield 216, 3) := dk_180 0 216 (dk_at dksX0_turns_2 14 rfl rfl)
theorem dX0_turns_63 : decode cX0_turns 63 = .ok (.invokevirtual 184, 3) := dk_182 0 184 (dk_at dksX0_turns_2 17 rfl rfl)
theorem dX0_turns_66 : decode cX0_turns 66 = .ok (.iload 4, 2) := dk_21 4 (dk_at dksX0_turns_2 20 rfl rfl)
theorem dX0_turns_68 : decode cX0_turns 68 = .ok (.iconst 1, 1) := dk_4 (dk_at dksX0_turns_2 22 rfl rfl)
theorem dX0_turns_69 : decode cX0_turns 69 = .ok (.aload_n 0, 1) := dk_42 (dk_at dksX0_turns_2 23 rfl rfl)
theorem dX0_turns_70 : decode cX0_turns 70 = .ok (.getfield 46, 3) := dk_180 0 46 (dk_at dksX0_turns_3 0 rfl rfl)
theorem dX0_turns_73 : decode cX0_turns 73 = .ok (.invokestatic 219, 3) := dk_184 0 219 (dk_at dksX0_turns_3 3 rfl rfl)
theorem dX0_turns_76 : decode cX0_turns 76 = .ok (.idiv, 1) := dk_108 (dk_at dksX0_turns_3 6 rfl rfl)
theorem dX0_turns_77 : decode cX0_turns 77 = .ok (.istore 4, 2) := dk_54 4 (dk_at dksX0_turns_3 7 rfl rfl)
theorem dX0_turns_79 : decode cX0_turns 79 = .ok (.iinc 5 1, 3) := dk_132 5 1 (dk_at dksX0_turns_3 9 rfl rfl)
theorem dX0_turns_82 : decode cX0_turns 82 = .ok (.goto (-44), 3) := dk_167 255 212 (dk_at dksX0_turns_3 12 rfl rfl)
theorem dX0_turns_85 : decode cX0_turns 85 = .ok (.return_, 1) := dk_177 (dk_at dksX0_turns_3 15 rfl rfl)
def dkwX0_figure_1 : List UInt8 := [132, 5, 255, 167, 255, 238, 21, 4, 42, 180, 0, 46, 112, 172]
abbrev dktX0_figure_1 : List UInt8 := dkwX0_figure_1 ++ []
def dkwX0_figure_0 : List UInt8 := [27, 54, 4, 28, 4, 100, 54, 5, 21, 5, 29, 164, 0, 18, 21, 4, 42, 180, 0, 46, 108, 54, 4]
abbrev dktX0_figure_0 : List UInt8 := dkwX0_figure_0 ++ dktX0_figure_1
theorem dksX0_figure_0 : cX0_figure.data.toList.drop 0 = dktX0_figure_0 := by decide +kernel
theorem dksX0_figure_1 : cX0_figure.data.toList.drop 23 = dktX0_figure_1 := dk_seg dksX0_figure_0 23 rfl rfl
theorem dX0_figure_0 : decode cX0_figure 0 = .ok (.iload_n 1, 1) := dk_27 (dk_at dksX0_figure_0 0 rfl rfl)
theorem dX0_figure_1 : decode cX0_figure 1 = .ok (.istore 4, 2) := dk_54 4 (dk_at dksX0_figure_0 1 rfl rfl)
theorem dX0_figure_3 : decode cX0_figure 3 = .ok (.iload_n 2, 1) := dk_28 (dk_at dksX0_figure_0 3 rfl rfl)
theorem dX0_figure_4 : decode cX0_figure 4 = .ok (.iconst 1, 1) := dk_4 (dk_at dksX0_figure_0 4 rfl rfl)
theorem dX0_figure_5 : decode cX0_figure 5 = .ok (.isub, 1) := dk_100 (dk_at dksX0_figure_0 5 rfl rfl)
theorem dX0_figure_6 : decode cX0_figure 6 = .ok (.istore 5, 2) := dk_54 5 (dk_at dksX0_figure_0 6 rfl rfl)
theorem dX0_figure_8 : decode cX0_figure 8 = .ok (.iload 5, 2) := dk_21 5 (dk_at dksX0_figure_0 8 rfl rfl)
theorem dX0_figure_10 : decode cX0_figure 10 = .ok (.iload_n 3, 1) := dk_29 (dk_at dksX0_figure_0 10 rfl rfl)
theorem dX0_figure_11 : decode cX0_figure 11 = .ok (.if_icmp .le 18, 3) := dk_164 0 18 (dk_at dksX0_figure_0 11 rfl rfl)
theorem dX0_figure_14 : decode cX0_figure 14 = .ok (.iload 4, 2) := dk_21 4 (dk_at dksX0_figure_0 14 rfl rfl)
theorem dX0_figure_16 : decode cX0_figure 16 = .ok (.aload_n 0, 1) := dk_42 (dk_at dksX0_figure_0 16 rfl rfl)
theorem dX0_figure_17 : decode cX0_figure 17 = .ok (.getfield 46, 3) := dk_180 0 46 (dk_at dksX0_figure_0 17 rfl rfl)
theorem dX0_figure_20 : decode cX0_figure 20 = .ok (.idiv, 1) := dk_108 (dk_at dksX0_figure_0 20 rfl rfl)
theorem dX0_figure_21 : decode cX0_figure 21 = .ok (.istore 4, 2) := dk_54 4 (dk_at dksX0_figure_0 21 rfl rfl)
theorem dX0_figure_23 : decode cX0_figure 23 = .ok (.iinc 5 (-1), 3) := dk_132 5 255 (dk_at dksX0_figure_1 0 rfl rfl)
theorem dX0_figure_26 : decode cX0_figure 26 = .ok (.goto (-18), 3) := dk_167 255 238 (dk_at dksX0_figure_1 3 rfl rfl)
theorem dX0_figure_29 : decode cX0_figure 29 = .ok (.iload 4, 2) := dk_21 4 (dk_at dksX0_figure_1 6 rfl rfl)
theorem dX0_figure_31 : decode cX0_figure 31 = .ok (.aload_n 0, 1) := dk_42 (dk_at dksX0_figure_1 8 rfl rfl)
theorem dX0_figure_32 : decode cX0_figure 32 = .ok (.getfield 46, 3) := dk_180 0 46 (dk_at dksX0_figure_1 9 rfl rfl)
theorem dX0_figure_35 : decode cX0_figure 35 = .ok (.irem, 1) := dk_112 (dk_at dksX0_figure_1 12 rfl rfl)
theorem dX0_figure_36 : decode cX0_figure 36 = .ok (.ireturn, 1) := dk_172 (dk_at dksX0_figure_1 13 rfl rfl)
def dkwX0_longest_1 : List UInt8 := [184, 0, 5, 153, 0, 13, 42, 27, 28, 29, 182, 0, 238, 167, 0, 5, 16, 254, 172]
abbrev dktX0_longest_1 : List UInt8 := dkwX0_longest_1 ++ []
def dkwX0_longest_0 : List UInt8 := [42, 27, 182, 0, 86, 153, 0, 33, 28, 4, 6, 184, 0, 5, 153, 0, 24, 29, 2, 28, 4, 100]
abbrev dktX0_longest_0 : List UInt8 := dkwX0_longest_0 ++ dktX0_longest_1
theorem dksX0_longest_0 : cX0_longest.data.toList.drop 0 = dktX0_longest_0 := by decide +kernel
theorem dksX0_longest_1 : cX0_longest.data.toList.drop 22 = dktX0_longest_1 := dk_seg dksX0_longest_0 22 rfl rfl
theorem dX0_longest_0 : decode cX0_longest 0 = .ok (.aload_n 0, 1) := dk_42 (dk_at dksX0_longest_0 0 rfl rfl)
theorem dX0_longest_1 : decode cX0_longest 1 = .ok (.iload_n 1, 1) := dk_27 (dk_at dksX0_longest_0 1 rfl rfl)
theorem dX0_longest_2 : decode cX0_longest 2 = .ok (.invokevirtual 86, 3) := dk_182 0 86 (dk_at dksX0_longest_0 2 rfl rfl)
theorem dX0_longest_5 : decode cX0_longest 5 = .ok (.ifCond .eq 33, 3) := dk_153 0 33 (dk_at dksX0_longest_0 5 rfl rfl)
theorem dX0_longest_8 : decode cX0_longest 8 = .ok (.iload_n 2, 1) := dk_28 (dk_at dksX0_longest_0 8 rfl rfl)
theorem dX0_longest_9 : decode cX0_longest 9 = .ok (.iconst 1, 1) := dk_4 (dk_at dksX0_longest_0 9 rfl rfl)
theorem dX0_longest_10 : decode cX0_longest 10 = .ok (.iconst 3, 1) := dk_6 (dk_at dksX0_longest_0 10 rfl rfl)
theorem dX0_longest_11 : decode cX0_longest 11 = .ok (.invokestatic 5, 3) := dk_184 0 5 (dk_at dksX0_longest_0 11 rfl rfl)
theorem dX0_longest_14 : decode cX0_longest 14 = .ok (.ifCond .eq 24, 3) := dk_153 0 24 (dk_at dksX0_longest_0 14 rfl rfl)
theorem dX0_longest_17 : decode cX0_longest 17 = .ok (.iload_n 3, 1) := dk_29 (dk_at dksX0_longest_0 17 rfl rfl)
theorem dX0_longest_18 : decode cX0_longest 18 = .ok (.iconst (-1), 1) := dk_2 (dk_at dksX0_longest_0 18 rfl rfl)
theorem dX0_longest_19 : decode cX0_longest 19 = .ok (.iload_n 2, 1) := dk_28 (dk_at dksX0_longest_0 19 rfl rfl)
theorem dX0_longest_20 : decode cX0_longest 20 = .ok (.iconst 1, 1) := dk_4 (dk_at dksX0_longest_0 20 rfl rfl)
theorem dX0_longest_21 : decode cX0_longest 21 = .ok (.isub, 1) := dk_100 (dk_at dksX0_longest_0 21 rfl rfl)
theorem dX0_longest_22 : decode cX0_longest 22 = .ok (.invokestatic 5, 3) := dk_184 0 5 (dk_at dksX0_longest_1 0 rfl rfl)
theorem dX0_longest_25 : decode cX0_longest 25 = .ok (.ifCond .eq 13, 3) := dk_153 0 13 (dk_at dksX0_longest_1 3 rfl rfl)
theorem dX0_longest_28 : decode cX0_longest 28 = .ok (.aload_n 0, 1) := dk_42 (dk_at dksX0_longest_1 6 rfl rfl)
theorem dX0_longest_29 : decode cX0_longest 29 = .ok (.iload_n 1, 1) := dk_27 (dk_at dksX0_longest_1 7 rfl rfl)
theorem dX0_longest_30 : decode cX0_longest 30 = .ok (.iload_n 2, 1) := dk_28 (dk_at dksX0_longest_1 8 rfl rfl)
theorem dX0_longest_31 : decode cX0_longest 31 = .ok (.iload_n 3, 1) := dk_29 (dk_at dksX0_longest_1 9 rfl rfl)
theorem dX0_longest_32 : decode cX0_longest 32 = .ok (.invokevirtual 238, 3) := dk_182 0 238 (dk_at dksX0_longest_1 10 rfl rfl)
theorem dX0_longest_35 : decode cX0_longest 35 = .ok (.goto 5, 3) := dk_167 0 5 (dk_at dksX0_longest_1 13 rfl rfl)
theorem dX0_longest_38 : decode cX0_longest 38 = .ok (.bipush (-2), 2) := dk_16 254 (dk_at dksX0_longest_1 16 rfl rfl)
theorem dX0_longest_40 : decode cX0_longest 40 = .ok (.ireturn, 1) := dk_172 (dk_at dksX0_longest_1 18 rfl rfl)
def dkwX0_longestOf_4 : List UInt8 := [182, 0, 232, 172]
abbrev dktX0_longestOf_4 : List UInt8 := dkwX0_longestOf_4 ++ []
def dkwX0_longestOf_3 : List UInt8 := [167, 255, 195, 21, 4, 2, 159, 0, 8, 29, 2, 160, 0, 8, 21, 5, 167, 0, 11, 42, 21, 4, 28, 29]
abbrev dktX0_longestOf_3 : List UInt8 := dkwX0_longestOf_3 ++ dktX0_longestOf_4
def dkwX0_longestOf_2 : List UInt8 := [167, 0, 5, 21, 4, 54, 4, 21, 5, 42, 180, 0, 216, 180, 0, 37, 184, 0, 219, 54, 5, 132, 6, 1]
abbrev dktX0_longestOf_2 : List UInt8 := dkwX0_longestOf_2 ++ dktX0_longestOf_3
def dkwX0_longestOf_1 : List UInt8 := [27, 50, 28, 21, 6, 182, 0, 225, 42, 180, 0, 216, 180, 0, 37, 21, 5, 164, 0, 8, 21, 6]
abbrev dktX0_longestOf_1 : List UInt8 := dkwX0_longestOf_1 ++ dktX0_longestOf_2
def dkwX0_longestOf_0 : List UInt8 := [2, 54, 4, 2, 54, 5, 3, 54, 6, 21, 6, 42, 28, 182, 0, 222, 162, 0, 57, 42, 42, 180, 0, 33]
abbrev dktX0_longestOf_0 : List UInt8 := dkwX0_longestOf_0 ++ dktX0_longestOf_1
theorem dksX0_longestOf_0 : cX0_longestOf.data.toList.drop 0 = dktX0_longestOf_0 := by decide +kernel
theorem dksX0_longestOf_1 : cX0_longestOf.data.toList.drop 24 = dktX0_longestOf_1 := dk_seg dksX0_longestOf_0 24 rfl rfl
theorem dksX0_longestOf_2 : cX0_longestOf.data.toList.drop 46 = dktX0_longestOf_2 := dk_seg dksX0_longestOf_1 22 rfl rfl
theorem dksX0_longestOf_3 : cX0_longestOf.data.toList.drop 70 = dktX0_longestOf_3 := dk_seg dksX0_longestOf_2 24 rfl rfl
theorem dksX0_longestOf_4 : cX0_longestOf.data.toList.drop 94 = dktX0_longestOf_4 := dk_seg dksX0_longestOf_3 24 rfl rfl
theorem dX0_longestOf_0 : decode cX0_longestOf 0 = .ok (.iconst (-1), 1) := dk_2 (dk_at dksX0_longestOf_0 0 rfl rfl)
theorem dX0_longestOf_1 : decode cX0_longestOf 1 = .ok (.istore 4, 2) := dk_54 4 (dk_at dksX0_longestOf_0 1 rfl rfl)
theorem dX0_longestOf_3 : decode cX0_longestOf 3 = .ok (.iconst (-1), 1) := dk_2 (dk_at dksX0_longestOf_0 3 rfl rfl)
theorem dX0_longestOf_4 : decode cX0_longestOf 4 = .ok (.istore 5, 2) := dk_54 5 (dk_at dksX0_longestOf_0 4 rfl rfl)
theorem dX0_longestOf_6 : decode cX0_longestOf 6 = .ok (.iconst 0, 1) := dk_3 (dk_at dksX0_longestOf_0 6 rfl rfl)
theorem dX0_longestOf_7 : decode cX0_longestOf 7 = .ok (.istore 6, 2) := dk_54 6 (dk_at dksX0_longestOf_0 7 rfl rfl)
theorem dX0_longestOf_9 : decode cX0_longestOf 9 = .ok (.iload 6, 2) := dk_21 6 (dk_at dksX0_longestOf_0 9 rfl rfl)
theorem dX0_longestOf_11 : decode cX0_longestOf 11 = .ok (.aload_n 0, 1) := dk_42 (dk_at dksX0_longestOf_0 11 rfl rfl)
theorem dX0_longestOf_12 : decode cX0_longestOf 12 = .ok (.iload_n 2, 1) := dk_28 (dk_at dksX0_longestOf_0 12 rfl rfl)
theorem dX0_longestOf_13 : decode cX0_longestOf 13 = .ok (.invokevirtual 222, 3) := dk_182 0 222 (dk_at dksX0_longestOf_0 13 rfl rfl)
theorem dX0_longestOf_16 : decode cX0_longestOf 16 = .ok (.if_icmp .ge 57, 3) := dk_162 0 57 (dk_at dksX0_longestOf_0 16 rfl rfl)
theorem dX0_longestOf_19 : decode cX0_longestOf 19 = .ok (.aload_n 0, 1) := dk_42 (dk_at dksX0_longestOf_0 19 rfl rfl)
theorem dX0_longestOf_20 : decode cX0_longestOf 20 = .ok (.aload_n 0, 1) := dk_42 (dk_at dksX0_longestOf_0 20 rfl rfl)
theorem dX0_longestOf_21 : decode cX0_longestOf 21 = .ok (.getfield 33, 3) := dk_180 0 33 (dk_at dksX0_longestOf_0 21 rfl rfl)
theorem dX0_longestOf_24 : decode cX0_longestOf 24 = .ok (.iload_n 1, 1) := dk_27 (dk_at dksX0_longestOf_1 0 rfl rfl)
theorem dX0_longestOf_25 : decode cX0_longestOf 25 = .ok (.aaload, 1) := dk_50 (dk_at dksX0_longestOf_1 1 rfl rfl)
theorem dX0_longestOf_26 : decode cX0_longestOf 26 = .ok (.iload_n 2, 1) := dk_28 (dk_at dksX0_longestOf_1 2 rfl rfl)
theorem dX0_longestOf_27 : decode cX0_longestOf 27 = .ok (.iload 6, 2) := dk_21 6 (dk_at dksX0_longestOf_1 3 rfl rfl)
theorem dX0_longestOf_29 : decode cX0_longestOf 29 = .ok (.invokevirtual 225, 3) := dk_182 0 225 (dk_at dksX0_longestOf_1 5 rfl rfl)
theorem dX0_longestOf_32 : decode cX0_longestOf 32 = .ok (.aload_n 0, 1) := dk_42 (dk_at dksX0_longestOf_1 8 rfl rfl)
theorem dX0_longestOf_33 : decode cX0_longestOf 33 = .ok (.getfield 216, 3) := dk_180 0 216 (dk_at dksX0_longestOf_1 9 rfl rfl)
theorem dX0_longestOf_36 : decode cX0_longestOf 36 = .ok (.getfield 37, 3) := dk_180 0 37 (dk_at dksX0_longestOf_1 12 rfl rfl)
theorem dX0_longestOf_39 : decode cX0_longestOf 39 = .ok (.iload 5, 2) := dk_21 5 (dk_at dksX0_longestOf_1 15 rfl rfl)
theorem dX0_longestOf_41 : decode cX0_longestOf 41 = .ok (.if_icmp .le 8, 3) := dk_164 0 8 (dk_at dksX0_longestOf_1 17 rfl rfl)
theorem dX0_longestOf_44 : decode cX0_longestOf 44 = .ok (.iload 6, 2) := dk_21 6 (dk_at dksX0_longestOf_1 20 rfl rfl)
theorem dX0_longestOf_46 : decode cX0_longestOf 46 = .ok (.goto 5, 3) := dk_167 0 5 (dk_at dksX0_longestOf_2 0 rfl rfl)
theorem dX0_longestOf_49 : decode cX0_longestOf 49 = .ok (.iload 4, 2) := dk_21 4 (dk_at dksX0_longestOf_2 3 rfl rfl)
theorem dX0_longestOf_51 : decode cX0_longestOf 51 = .ok (.istore 4, 2) := dk_54 4 (dk_at dksX0_longestOf_2 5 rfl rfl)
theorem dX0_longestOf_53 : decode cX0_longestOf 53 = .ok (.iload 5, 2) := dk_21 5 (dk_at dksX0_longestOf_2 7 rfl rfl)
theorem dX0_longestOf_55 : decode cX0_longestOf 55 = .ok (.aload_n 0, 1) := dk_42 (dk_at dksX0_longestOf_2 9 rfl rfl)
theorem dX0_longestOf_56 : decode cX0_longestOf 56 = .ok (.getfield 216, 3) := dk_180 0 216 (dk_at dksX0_longestOf_2 10 rfl rfl)
theorem dX0_longestOf_59 : decode cX0_longestOf 59 = .ok (.getfield 37, 3) := dk_180 0 37 (dk_at dksX0_longestOf_2 13 rfl rfl)
theorem dX0_longestOf_62 : decode cX0_longestOf 62 = .ok (.invokestatic 219, 3) := dk_184 0 219 (dk_at dksX0_longestOf_2 16 rfl rfl)
theorem dX0_longestOf_65 : decode cX0_longestOf 65 = .ok (.istore 5, 2) := dk_54 5 (dk_at dksX0_longestOf_2 19 rfl rfl)
theorem dX0_longestOf_67 : decode cX0_longestOf 67 = .ok (.iinc 6 1, 3) := dk_132 6 1 (dk_at dksX0_longestOf_2 21 rfl rfl)
theorem dX0_longestOf_70 : decode cX0_longestOf 70 = .ok (.goto (-61), 3) := dk_167 255 195 (dk_at dksX0_longestOf_3 0 rfl rfl)
theorem dX0_longestOf_73 : decode cX0_longestOf 73 = .ok (.iload 4, 2) := dk_21 4 (dk_at dksX0_longestOf_3 3 rfl rfl)
theorem dX0_longestOf_75 : decode cX0_longestOf 75 = .ok (.iconst (-1), 1) := dk_2 (dk_at dksX0_longestOf_3 5 rfl rfl)
theorem dX0_longestOf_76 : decode cX0_longestOf 76 = .ok (.if_icmp .eq 8, 3) := dk_159 0 8 (dk_at dksX0_longestOf_3 6 rfl rfl)
theorem dX0_longestOf_79 : decode cX0_longestOf 79 = .ok (.iload_n 3, 1) := dk_29 (dk_at dksX0_longestOf_3 9 rfl rfl)
theorem dX0_longestOf_80 : decode cX0_longestOf 80 = .ok (.iconst (-1), 1) := dk_2 (dk_at dksX0_longestOf_3 10 rfl rfl)
theorem dX0_longestOf_81 : decode cX0_longestOf 81 = .ok (.if_icmp .ne 8, 3) := dk_160 0 8 (dk_at dksX0_longestOf_3 11 rfl rfl)
theorem dX0_longestOf_84 : decode cX0_longestOf 84 = .ok (.iload 5, 2) := dk_21 5 (dk_at dksX0_longestOf_3 14 rfl rfl)
theorem dX0_longestOf_86 : decode cX0_longestOf 86 = .ok (.goto 11, 3) := dk_167 0 11 (dk_at dksX0_longestOf_3 16 rfl rfl)
theorem dX0_longestOf_89 : decode cX0_longestOf 89 = .ok (.aload_n 0, 1) := dk_42 (dk_at dksX0_longestOf_3 19 rfl rfl)
theorem dX0_longestOf_90 : decode cX0_longestOf 90 = .ok (.iload 4, 2) := dk_21 4 (dk_at dksX0_longestOf_3 20 rfl rfl)
theorem dX0_longestOf_92 : decode cX0_longestOf 92 = .ok (.iload_n 2, 1) := dk_28 (dk_at dksX0_longestOf_3 22 rfl rfl)
theorem dX0_longestOf_93 : decode cX0_longestOf 93 = .ok (.iload_n 3, 1) := dk_29 (dk_at dksX0_longestOf_3 23 rfl rfl)
theorem dX0_longestOf_94 : decode cX0_longestOf 94 = .ok (.invokevirtual 232, 3) := dk_182 0 232 (dk_at dksX0_longestOf_4 0 rfl rfl)
theorem dX0_longestOf_97 : decode cX0_longestOf 97 = .ok (.ireturn, 1) := dk_172 (dk_at dksX0_longestOf_4 3 rfl rfl)
def dkwX0_who_1 : List UInt8 := [27, 28, 29, 182, 0, 248, 167, 0, 5, 16, 254, 172]
abbrev dktX0_who_1 : List UInt8 := dkwX0_who_1 ++ []
def dkwX0_who_0 : List UInt8 := [42, 27, 182, 0, 86, 153, 0, 28, 42, 28, 182, 0, 86, 153, 0, 20, 29, 184, 0, 9, 153, 0, 13, 42]
abbrev dktX0_who_0 : List UInt8 := dkwX0_who_0 ++ dktX0_who_1
theorem dksX0_who_0 : cX0_who.data.toList.drop 0 = dktX0_who_0 := by decide +kernel
theorem dksX0_who_1 : cX0_who.data.toList.drop 24 = dktX0_who_1 := dk_seg dksX0_who_0 24 rfl rfl
theorem dX0_who_0 : decode cX0_who 0 = .ok (.aload_n 0, 1) := dk_42 (dk_at dksX0_who_0 0 rfl rfl)
theorem dX0_who_1 : decode cX0_who 1 = .ok (.iload_n 1, 1) := dk_27 (dk_at dksX0_who_0 1 rfl rfl)
theorem dX0_who_2 : decode cX0_who 2 = .ok (.invokevirtual 86, 3) := dk_182 0 86 (dk_at dksX0_who_0 2 rfl rfl)
theorem dX0_who_5 : decode cX0_who 5 = .ok (.ifCond .eq 28, 3) := dk_153 0 28 (dk_at dksX0_who_0 5 rfl rfl)
theorem dX0_who_8 : decode cX0_who 8 = .ok (.aload_n 0, 1) := dk_42 (dk_at dksX0_who_0 8 rfl rfl)
theorem dX0_who_9 : decode cX0_who 9 = .ok (.iload_n 2, 1) := dk_28 (dk_at dksX0_who_0 9 rfl rfl)
theorem dX0_who_10 : decode cX0_who 10 = .ok (.invokevirtual 86, 3) := dk_182 0 86 (dk_at dksX0_who_0 10 rfl rfl)
theorem dX0_who_13 : decode cX0_who 13 = .ok (.ifCond .eq 20, 3) := dk_153 0 20 (dk_at dksX0_who_0 13 rfl rfl)
theorem dX0_who_16 : decode cX0_who 16 = .ok (.iload_n 3, 1) := dk_29 (dk_at dksX0_who_0 16 rfl rfl)
theorem dX0_who_17 : decode cX0_who 17 = .ok (.invokestatic 9, 3) := dk_184 0 9 (dk_at dksX0_who_0 17 rfl rfl)
theorem dX0_who_20 : decode cX0_who 20 = .ok (.ifCond .eq 13, 3) := dk_153 0 13 (dk_at dksX0_who_0 20 rfl rfl)
theorem dX0_who_23 : decode cX0_who 23 = .ok (.aload_n 0, 1) := dk_42 (dk_at dksX0_who_0 23 rfl rfl)
theorem dX0_who_24 : decode cX0_who 24 = .ok (.iload_n 1, 1) := dk_27 (dk_at dksX0_who_1 0 rfl rfl)
theorem dX0_who_25 : decode cX0_who 25 = .ok (.iload_n 2, 1) := dk_28 (dk_at dksX0_who_1 1 rfl rfl)
theorem dX0_who_26 : decode cX0_who 26 = .ok (.iload_n 3, 1) := dk_29 (dk_at dksX0_who_1 2 rfl rfl)
theorem dX0_who_27 : decode cX0_who 27 = .ok (.invokevirtual 248, 3) := dk_182 0 248 (dk_at dksX0_who_1 3 rfl rfl)
theorem dX0_who_30 : decode cX0_who 30 = .ok (.goto 5, 3) := dk_167 0 5 (dk_at dksX0_who_1 6 rfl rfl)
theorem dX0_who_33 : decode cX0_who 33 = .ok (.bipush (-2), 2) := dk_16 254 (dk_at dksX0_who_1 9 rfl rfl)
theorem dX0_who_35 : decode cX0_who 35 = .ok (.ireturn, 1) := dk_172 (dk_at dksX0_who_1 11 rfl rfl)
def dkwX0_whoOf_4 : List UInt8 := [29, 154, 0, 8, 21, 4, 167, 0, 5, 21, 5, 172]
abbrev dktX0_whoOf_4 : List UInt8 := dkwX0_whoOf_4 ++ []
def dkwX0_whoOf_3 : List UInt8 := [21, 6, 182, 0, 245, 167, 0, 5, 21, 5, 54, 5, 132, 7, 1, 167, 255, 188, 132, 6, 1, 167, 255, 173]
abbrev dktX0_whoOf_3 : List UInt8 := dkwX0_whoOf_3 ++ dktX0_whoOf_4
def dkwX0_whoOf_2 : List UInt8 := [42, 180, 0, 33, 28, 50, 182, 0, 241, 153, 0, 27, 132, 4, 1, 21, 5, 2, 160, 0, 14, 42, 21, 7]
abbrev dktX0_whoOf_2 : List UInt8 := dkwX0_whoOf_2 ++ dktX0_whoOf_3
def dkwX0_whoOf_1 : List UInt8 := [182, 0, 222, 162, 0, 63, 42, 42, 180, 0, 33, 27, 50, 21, 6, 21, 7, 182, 0, 225, 42, 180, 0, 216]
abbrev dktX0_whoOf_1 : List UInt8 := dkwX0_whoOf_1 ++ dktX0_whoOf_2
def dkwX0_whoOf_0 : List UInt8 := [3, 54, 4, 2, 54, 5, 3, 54, 6, 21, 6, 6, 163, 0, 83, 3, 54, 7, 21, 7, 42, 21, 6]
abbrev dktX0_whoOf_0 : List UInt8 := dkwX0_whoOf_0 ++ dktX0_whoOf_1
theorem dksX0_whoOf_0 : cX0_whoOf.data.toList.drop 0 = dktX0_whoOf_0 := by decide +kernel
theorem dksX0_whoOf_1 : cX0_whoOf.data.toList.drop 23 = dktX0_whoOf_1 := dk_seg dksX0_whoOf_0 23 rfl rfl
theorem dksX0_whoOf_2 : cX0_whoOf.data.toList.drop 47 = dktX0_whoOf_2 := dk_seg dksX0_whoOf_1 24 rfl rfl
theorem dksX0_whoOf_3 : cX0_whoOf.data.toList.drop 71 = dktX0_whoOf_3 := dk_seg dksX0_whoOf_2 24 rfl rfl
theorem dksX0_whoOf_4 : cX0_whoOf.data.toList.drop 95 = dktX0_whoOf_4 := dk_seg dksX0_whoOf_3 24 rfl rfl
theorem dX0_whoOf_0 : decode cX0_whoOf 0 = .ok (.iconst 0, 1) := dk_3 (dk_at dksX0_whoOf_0 0 rfl rfl)
theorem dX0_whoOf_1 : decode cX0_whoOf 1 = .ok (.istore 4, 2) := dk_54 4 (dk_at dksX0_whoOf_0 1 rfl rfl)
theorem dX0_whoOf_3 : decode cX0_whoOf 3 = .ok (.iconst (-1), 1) := dk_2 (dk_at dksX0_whoOf_0 3 rfl rfl)
theorem dX0_whoOf_4 : decode cX0_whoOf 4 = .ok (.istore 5, 2) := dk_54 5 (dk_at dksX0_whoOf_0 4 rfl rfl)
theorem dX0_whoOf_6 : decode cX0_whoOf 6 = .ok (.iconst 0, 1) := dk_3 (dk_at dksX0_whoOf_0 6 rfl rfl)
theorem dX0_whoOf_7 : decode cX0_whoOf 7 = .ok (.istore 6, 2) := dk_54 6 (dk_at dksX0_whoOf_0 7 rfl rfl)
theorem dX0_whoOf_9 : decode cX0_whoOf 9 = .ok (.iload 6, 2) := dk_21 6 (dk_at dksX0_whoOf_0 9 rfl rfl)
theorem dX0_whoOf_11 : decode cX0_whoOf 11 = .ok (.iconst 3, 1) := dk_6 (dk_at dksX0_whoOf_0 11 rfl rfl)
theorem dX0_whoOf_12 : decode cX0_whoOf 12 = .ok (.if_icmp .gt 83, 3) := dk_163 0 83 (dk_at dksX0_whoOf_0 12 rfl rfl)
theorem dX0_whoOf_15 : decode cX0_whoOf 15 = .ok (.iconst 0, 1) := dk_3 (dk_at dksX0_whoOf_0 15 rfl rfl)
theorem dX0_whoOf_16 : decode cX0_whoOf 16 = .ok (.istore 7, 2) := dk_54 7 (dk_at dksX0_whoOf_0 16 rfl rfl)
theorem dX0_whoOf_18 : decode cX0_whoOf 18 = .ok (.iload 7, 2) := dk_21 7 (dk_at dksX0_whoOf_0 18 rfl rfl)
theorem dX0_whoOf_20 : decode cX0_whoOf 20 = .ok (.aload_n 0, 1) := dk_42 (dk_at dksX0_whoOf_0 20 rfl rfl)
theorem dX0_whoOf_21 : decode cX0_whoOf 21 = .ok (.iload 6, 2) := dk_21 6 (dk_at dksX0_whoOf_0 21 rfl rfl)
theorem dX0_whoOf_23 : decode cX0_whoOf 23 = .ok (.invokevirtual 222, 3) := dk_182 0 222 (dk_at dksX0_whoOf_1 0 rfl rfl)
theorem dX0_whoOf_26 : decode cX0_whoOf 26 = .ok (.if_icmp .ge 63, 3) := dk_162 0 63 (dk_at dksX0_whoOf_1 3 rfl rfl)
theorem dX0_whoOf_29 : decode cX0_whoOf 29 = .ok (.aload_n 0, 1) := dk_42 (dk_at dksX0_whoOf_1 6 rfl rfl)
theorem dX0_whoOf_30 : decode cX0_whoOf 30 = .ok (.aload_n 0, 1) := dk_42 (dk_at dksX0_whoOf_1 7 rfl rfl)
theorem dX0_whoOf_31 : decode cX0_whoOf 31 = .ok (.getfield 33, 3) := dk_180 0 33 (dk_at dksX0_whoOf_1 8 rfl rfl)
theorem dX0_whoOf_34 : decode cX0_whoOf 34 = .ok (.iload_n 1, 1) := dk_27 (dk_at dksX0_whoOf_1 11 rfl rfl)
theorem dX0_whoOf_35 : decode cX0_whoOf 35 = .ok (.aaload, 1) := dk_50 (dk_at dksX0_whoOf_1 12 rfl rfl)
theorem dX0_whoOf_36 : decode cX0_whoOf 36 = .ok (.iload 6, 2) := dk_21 6 (dk_at dksX0_whoOf_1 13 rfl rfl)
theorem dX0_whoOf_38 : decode cX0_whoOf 38 = .ok (.iload 7, 2) := dk_21 7 (dk_at dksX0_whoOf_1 15 rfl rfl)
theorem dX0_whoOf_40 : decode cX0_whoOf 40 = .ok (.invokevirtual 225, 3) := dk_182 0 225 (dk_at dksX0_whoOf_1 17 rfl rfl)
theorem dX0_whoOf_43 : decode cX0_whoOf 43 = .ok (.aload_n 0, 1) := dk_42 (dk_at dksX0_whoOf_1 20 rfl rfl)
theorem dX0_whoOf_44 : decode cX0_whoOf 44 = .ok (.getfield 216, 3) := dk_180 0 216 (dk_at dksX0_whoOf_1 21 rfl rfl)
theorem dX0_whoOf_47 : decode cX0_whoOf 47 = .ok (.aload_n 0, 1) := dk_42 (dk_at dksX0_whoOf_2 0 rfl rfl)
theorem dX0_whoOf_48 : decode cX0_whoOf 48 = .ok (.getfield 33, 3) := dk_180 0 33 (dk_at dksX0_whoOf_2 1 rfl rfl)
theorem dX0_whoOf_51 : decode cX0_whoOf 51 = .ok (.iload_n 2, 1) := dk_28 (dk_at dksX0_whoOf_2 4 rfl rfl)
theorem dX0_whoOf_52 : decode cX0_whoOf 52 = .ok (.aaload, 1) := dk_50 (dk_at dksX0_whoOf_2 5 rfl rfl)
theorem dX0_whoOf_53 : decode cX0_whoOf 53 = .ok (.invokevirtual 241, 3) := dk_182 0 241 (dk_at dksX0_whoOf_2 6 rfl rfl)
theorem dX0_whoOf_56 : decode cX0_whoOf 56 = .ok (.ifCond .eq 27, 3) := dk_153 0 27 (dk_at dksX0_whoOf_2 9 rfl rfl)
theorem dX0_whoOf_59 : decode cX0_whoOf 59 = .ok (.iinc 4 1, 3) := dk_132 4 1 (dk_at dksX0_whoOf_2 12 rfl rfl)
theorem dX0_whoOf_62 : decode cX0_whoOf 62 = .ok (.iload 5, 2) := dk_21 5 (dk_at dksX0_whoOf_2 15 rfl rfl)
theorem dX0_whoOf_64 : decode cX0_whoOf 64 = .ok (.iconst (-1), 1) := dk_2 (dk_at dksX0_whoOf_2 17 rfl rfl)
theorem dX0_whoOf_65 : decode cX0_whoOf 65 = .ok (.if_icmp .ne 14, 3) := dk_160 0 14 (dk_at dksX0_whoOf_2 18 rfl rfl)
theorem dX0_whoOf_68 : decode cX0_whoOf 68 = .ok (.aload_n 0, 1) := dk_42 (dk_at dksX0_whoOf_2 21 rfl rfl)
theorem dX0_whoOf_69 : decode cX0_whoOf 69 = .ok (.iload 7, 2) := dk_21 7 (dk_at dksX0_whoOf_2 22 rfl rfl)
theorem dX0_whoOf_71 : decode cX0_whoOf 71 = .ok (.iload 6, 2) := dk_21 6 (dk_at dksX0_whoOf_3 0 rfl rfl)
theorem dX0_whoOf_73 : decode cX0_whoOf 73 = .ok (.invokevirtual 245, 3) := dk_182 0 245 (dk_at dksX0_whoOf_3 2 rfl rfl)
theorem dX0_whoOf_76 : decode cX0_whoOf 76 = .ok (.goto 5, 3) := dk_167 0 5 (dk_at dksX0_whoOf_3 5 rfl rfl)
theorem dX0_whoOf_79 : decode cX0_whoOf 79 = .ok (.iload 5, 2) := dk_21 5 (dk_at dksX0_whoOf_3 8 rfl rfl)
theorem dX0_whoOf_81 : decode cX0_whoOf 81 = .ok (.istore 5, 2) := dk_54 5 (dk_at dksX0_whoOf_3 10 rfl rfl)
theorem dX0_whoOf_83 : decode cX0_whoOf 83 = .ok (.iinc 7 1, 3) := dk_132 7 1 (dk_at dksX0_whoOf_3 12 rfl rfl)
theorem dX0_whoOf_86 : decode cX0_whoOf 86 = .ok (.goto (-68), 3) := dk_167 255 188 (dk_at dksX0_whoOf_3 15 rfl rfl)
theorem dX0_whoOf_89 : decode cX0_whoOf 89 = .ok (.iinc 6 1, 3) := dk_132 6 1 (dk_at dksX0_whoOf_3 18 rfl rfl)
theorem dX0_whoOf_92 : decode cX0_whoOf 92 = .ok (.goto (-83), 3) := dk_167 255 173 (dk_at dksX0_whoOf_3 21 rfl rfl)
theorem dX0_whoOf_95 : decode cX0_whoOf 95 = .ok (.iload_n 3, 1) := dk_29 (dk_at dksX0_whoOf_4 0 rfl rfl)
theorem dX0_whoOf_96 : decode cX0_whoOf 96 = .ok (.ifCond .ne 8, 3) := dk_154 0 8 (dk_at dksX0_whoOf_4 1 rfl rfl)
theorem dX0_whoOf_99 : decode cX0_whoOf 99 = .ok (.iload 4, 2) := dk_21 4 (dk_at dksX0_whoOf_4 4 rfl rfl)
theorem dX0_whoOf_101 : decode cX0_whoOf 101 = .ok (.goto 5, 3) := dk_167 0 5 (dk_at dksX0_whoOf_4 6 rfl rfl)
theorem dX0_whoOf_104 : decode cX0_whoOf 104 = .ok (.iload 5, 2) := dk_21 5 (dk_at dksX0_whoOf_4 9 rfl rfl)
theorem dX0_whoOf_106 : decode cX0_whoOf 106 = .ok (.ireturn, 1) := dk_172 (dk_at dksX0_whoOf_4 11 rfl rfl)
def dkwX0_codeOf_1 : List UInt8 := [4, 96, 62, 132, 4, 1, 167, 255, 231, 29, 172]
abbrev dktX0_codeOf_1 : List UInt8 := dkwX0_codeOf_1 ++ []
def dkwX0_codeOf_0 : List UInt8 := [3, 62, 3, 54, 4, 21, 4, 28, 162, 0, 25, 16, 7, 29, 104, 42, 27, 28, 21, 4, 182, 0, 232, 96]
abbrev dktX0_codeOf_0 : List UInt8 := dkwX0_codeOf_0 ++ dktX0_codeOf_1
theorem dksX0_codeOf_0 : cX0_codeOf.data.toList.drop 0 = dktX0_codeOf_0 := by decide +kernel
theorem dksX0_codeOf_1 : cX0_codeOf.data.toList.drop 24 = dktX0_codeOf_1 := dk_seg dksX0_codeOf_0 24 rfl rfl
theorem dX0_codeOf_0 : decode cX0_codeOf 0 = .ok (.iconst 0, 1) := dk_3 (dk_at dksX0_codeOf_0 0 rfl rfl)
theorem dX0_codeOf_1 : decode cX0_codeOf 1 = .ok (.istore_n 3, 1) := dk_62 (dk_at dksX0_codeOf_0 1 rfl rfl)
theorem dX0_codeOf_2 : decode cX0_codeOf 2 = .ok (.iconst 0, 1) := dk_3 (dk_at dksX0_codeOf_0 2 rfl rfl)
theorem dX0_codeOf_3 : decode cX0_codeOf 3 = .ok (.istore 4, 2) := dk_54 4 (dk_at dksX0_codeOf_0 3 rfl rfl)
theorem dX0_codeOf_5 : decode cX0_codeOf 5 = .ok (.iload 4, 2) := dk_21 4 (dk_at dksX0_codeOf_0 5 rfl rfl)
theorem dX0_codeOf_7 : decode cX0_codeOf 7 = .ok (.iload_n 2, 1) := dk_28 (dk_at dksX0_codeOf_0 7 rfl rfl)
theorem dX0_codeOf_8 : decode cX0_codeOf 8 = .ok (.if_icmp .ge 25, 3) := dk_162 0 25 (dk_at dksX0_codeOf_0 8 rfl rfl)
theorem dX0_codeOf_11 : decode cX0_codeOf 11 = .ok (.bipush 7, 2) := dk_16 7 (dk_at dksX0_codeOf_0 11 rfl rfl)
theorem dX0_codeOf_13 : decode cX0_codeOf 13 = .ok (.iload_n 3, 1) := dk_29 (dk_at dksX0_codeOf_0 13 rfl rfl)
theorem dX0_codeOf_14 : decode cX0_codeOf 14 = .ok (.imul, 1) := dk_104 (dk_at dksX0_codeOf_0 14 rfl rfl)
theorem dX0_codeOf_15 : decode cX0_codeOf 15 = .ok (.aload_n 0, 1) := dk_42 (dk_at dksX0_codeOf_0 15 rfl rfl)
theorem dX0_codeOf_16 : decode cX0_codeOf 16 = .ok (.iload_n 1, 1) := dk_27 (dk_at dksX0_codeOf_0 16 rfl rfl)
theorem dX0_codeOf_17 : decode cX0_codeOf 17 = .ok (.iload_n 2, 1) := dk_28 (dk_at dksX0_codeOf_0 17 rfl rfl)
theorem dX0_codeOf_18 : decode cX0_codeOf 18 = .ok (.iload 4, 2) := dk_21 4 (dk_at dksX0_codeOf_0 18 rfl rfl)
theorem dX0_codeOf_20 : decode cX0_codeOf 20 = .ok (.invokevirtual 232, 3) := dk_182 0 232 (dk_at dksX0_codeOf_0 20 rfl rfl)
theorem dX0_codeOf_23 : decode cX0_codeOf 23 = .ok (.iadd, 1) := dk_96 (dk_at dksX0_codeOf_0 23 rfl rfl)
theorem dX0_codeOf_24 : decode cX0_codeOf 24 = .ok (.iconst 1, 1) := dk_4 (dk_at dksX0_codeOf_1 0 rfl rfl)
theorem dX0_codeOf_25 : decode cX0_codeOf 25 = .ok (.iadd, 1) := dk_96 (dk_at dksX0_codeOf_1 1 rfl rfl)
theorem dX0_codeOf_26 : decode cX0_codeOf 26 = .ok (.istore_n 3, 1) := dk_62 (dk_at dksX0_codeOf_1 2 rfl rfl)
theorem dX0_codeOf_27 : decode cX0_codeOf 27 = .ok (.iinc 4 1, 3) := dk_132 4 1 (dk_at dksX0_codeOf_1 3 rfl rfl)
theorem dX0_codeOf_30 : decode cX0_codeOf 30 = .ok (.goto (-25), 3) := dk_167 255 231 (dk_at dksX0_codeOf_1 6 rfl rfl)
theorem dX0_codeOf_33 : decode cX0_codeOf 33 = .ok (.iload_n 3, 1) := dk_29 (dk_at dksX0_codeOf_1 9 rfl rfl)
theorem dX0_codeOf_34 : decode cX0_codeOf 34 = .ok (.ireturn, 1) := dk_172 (dk_at dksX0_codeOf_1 10 rfl rfl)
def dkwX0_common_1 : List UInt8 := [180, 0, 33, 28, 50, 182, 0, 172, 167, 0, 5, 16, 254, 172]
abbrev dktX0_common_1 : List UInt8 := dkwX0_common_1 ++ []
def dkwX0_common_0 : List UInt8 := [42, 27, 182, 0, 86, 153, 0, 30, 42, 28, 182, 0, 86, 153, 0, 22, 42, 42, 180, 0, 33, 27, 50, 42]
abbrev dktX0_common_0 : List UInt8 := dkwX0_common_0 ++ dktX0_common_1
theorem dksX0_common_0 : cX0_common.data.toList.drop 0 = dktX0_common_0 := by decide +kernel
theorem dksX0_common_1 : cX0_common.data.toList.drop 24 = dktX0_common_1 := dk_seg dksX0_common_0 24 rfl rfl
theorem dX0_common_0 : decode cX0_common 0 = .ok (.aload_n 0, 1) := dk_42 (dk_at dksX0_common_0 0 rfl rfl)
theorem dX0_common_1 : decode cX0_common 1 = .ok (.iload_n 1, 1) := dk_27 (dk_at dksX0_common_0 1 rfl rfl)
theorem dX0_common_2 : decode cX0_common 2 = .ok (.invokevirtual 86, 3) := dk_182 0 86 (dk_at dksX0_common_0 2 rfl rfl)
theorem dX0_common_5 : decode cX0_common 5 = .ok (.ifCond .eq 30, 3) := dk_153 0 30 (dk_at dksX0_common_0 5 rfl rfl)
theorem dX0_common_8 : decode cX0_common 8 = .ok (.aload_n 0, 1) := dk_42 (dk_at dksX0_common_0 8 rfl rfl)
theorem dX0_common_9 : decode cX0_common 9 = .ok (.iload_n 2, 1) := dk_28 (dk_at dksX0_common_0 9 rfl rfl)
theorem dX0_common_10 : decode cX0_common 10 = .ok (.invokevirtual 86, 3) := dk_182 0 86 (dk_at dksX0_common_0 10 rfl rfl)
theorem dX0_common_13 : decode cX0_common 13 = .ok (.ifCond .eq 22, 3) := dk_153 0 22 (dk_at dksX0_common_0 13 rfl rfl)
theorem dX0_common_16 : decode cX0_common 16 = .ok (.aload_n 0, 1) := dk_42 (dk_at dksX0_common_0 16 rfl rfl)
theorem dX0_common_17 : decode cX0_common 17 = .ok (.aload_n 0, 1) := dk_42 (dk_at dksX0_common_0 17 rfl rfl)
theorem dX0_common_18 : decode cX0_common 18 = .ok (.getfield 33, 3) := dk_180 0 33 (dk_at dksX0_common_0 18 rfl rfl)
theorem dX0_common_21 : decode cX0_common 21 = .ok (.iload_n 1, 1) := dk_27 (dk_at dksX0_common_0 21 rfl rfl)
theorem dX0_common_22 : decode cX0_common 22 = .ok (.aaload, 1) := dk_50 (dk_at dksX0_common_0 22 rfl rfl)
theorem dX0_common_23 : decode cX0_common 23 = .ok (.aload_n 0, 1) := dk_42 (dk_at dksX0_common_0 23 rfl rfl)
theorem dX0_common_24 : decode cX0_common 24 = .ok (.getfield 33, 3) := dk_180 0 33 (dk_at dksX0_common_1 0 rfl rfl)
theorem dX0_common_27 : decode cX0_common 27 = .ok (.iload_n 2, 1) := dk_28 (dk_at dksX0_common_1 3 rfl rfl)
theorem dX0_common_28 : decode cX0_common 28 = .ok (.aaload, 1) := dk_50 (dk_at dksX0_common_1 4 rfl rfl)
theorem dX0_common_29 : decode cX0_common 29 = .ok (.invokevirtual 172, 3) := dk_182 0 172 (dk_at dksX0_common_1 5 rfl rfl)
theorem dX0_common_32 : decode cX0_common 32 = .ok (.goto 5, 3) := dk_167 0 5 (dk_at dksX0_common_1 8 rfl rfl)
theorem dX0_common_35 : decode cX0_common 35 = .ok (.bipush (-2), 2) := dk_16 254 (dk_at dksX0_common_1 11 rfl rfl)
theorem dX0_common_37 : decode cX0_common 37 = .ok (.ireturn, 1) := dk_172 (dk_at dksX0_common_1 13 rfl rfl)
def dkwX0_far_1 : List UInt8 := [167, 0, 5, 16, 254, 172]
abbrev dktX0_far_1 : List UInt8 := dkwX0_far_1 ++ []
def dkwX0_far_0 : List UInt8 := [42, 27, 182, 0, 86, 153, 0, 20, 42, 28, 182, 0, 86, 153, 0, 12, 42, 27, 28, 182, 0, 254]
abbrev dktX0_far_0 : List UInt8 := dkwX0_far_0 ++ dktX0_far_1
theorem dksX0_far_0 : cX0_far.data.toList.drop 0 = dktX0_far_0 := by decide +kernel
theorem dksX0_far_1 : cX0_far.data.toList.drop 22 = dktX0_far_1 := dk_seg dksX0_far_0 22 rfl rfl
theorem dX0_far_0 : decode cX0_far 0 = .ok (.aload_n 0, 1) := dk_42 (dk_at dksX0_far_0 0 rfl rfl)
theorem dX0_far_1 : decode cX0_far 1 = .ok (.iload_n 1, 1) := dk_27 (dk_at dksX0_far_0 1 rfl rfl)
theorem dX0_far_2 : decode cX0_far 2 = .ok (.invokevirtual 86, 3) := dk_182 0 86 (dk_at dksX0_far_0 2 rfl rfl)
theorem dX0_far_5 : decode cX0_far 5 = .ok (.ifCond .eq 20, 3) := dk_153 0 20 (dk_at dksX0_far_0 5 rfl rfl)
theorem dX0_far_8 : decode cX0_far 8 = .ok (.aload_n 0, 1) := dk_42 (dk_at dksX0_far_0 8 rfl rfl)
theorem dX0_far_9 : decode cX0_far 9 = .ok (.iload_n 2, 1) := dk_28 (dk_at dksX0_far_0 9 rfl rfl)
theorem dX0_far_10 : decode cX0_far 10 = .ok (.invokevirtual 86, 3) := dk_182 0 86 (dk_at dksX0_far_0 10 rfl rfl)
theorem dX0_far_13 : decode cX0_far 13 = .ok (.ifCond .eq 12, 3) := dk_153 0 12 (dk_at dksX0_far_0 13 rfl rfl)
theorem dX0_far_16 : decode cX0_far 16 = .ok (.aload_n 0, 1) := dk_42 (dk_at dksX0_far_0 16 rfl rfl)
theorem dX0_far_17 : decode cX0_far 17 = .ok (.iload_n 1, 1) := dk_27 (dk_at dksX0_far_0 17 rfl rfl)
theorem dX0_far_18 : decode cX0_far 18 = .ok (.iload_n 2, 1) := dk_28 (dk_at dksX0_far_0 18 rfl rfl)
theorem dX0_far_19 : decode cX0_far 19 = .ok (.invokevirtual 254, 3) := dk_182 0 254 (dk_at dksX0_far_0 19 rfl rfl)
theorem dX0_far_22 : decode cX0_far 22 = .ok (.goto 5, 3) := dk_167 0 5 (dk_at dksX0_far_1 0 rfl rfl)
theorem dX0_far_25 : decode cX0_far 25 = .ok (.bipush (-2), 2) := dk_16 254 (dk_at dksX0_far_1 3 rfl rfl)
theorem dX0_far_27 : decode cX0_far 27 = .ok (.ireturn, 1) := dk_172 (dk_at dksX0_far_1 5 rfl rfl)
def dkwX0_farOf_1 : List UInt8 := [180, 0, 33, 27, 50, 42, 180, 0, 33, 28, 50, 182, 0, 172, 104, 100, 172]
abbrev dktX0_farOf_1 : List UInt8 := dkwX0_farOf_1 ++ []
def dkwX0_farOf_0 : List UInt8 := [42, 180, 0, 33, 27, 50, 180, 0, 37, 42, 180, 0, 33, 28, 50, 180, 0, 37, 96, 5, 42, 42]
abbrev dktX0_farOf_0 : List UInt8 := dkwX0_farOf_0 ++ dktX0_farOf_1
theorem dksX0_farOf_0 : cX0_farOf.data.toList.drop 0 = dktX0_farOf_0 := by decide +kernel
theorem dksX0_farOf_1 : cX0_farOf.data.toList.drop 22 = dktX0_farOf_1 := dk_seg dksX0_farOf_0 22 rfl rfl
theorem dX0_farOf_0 : decode cX0_farOf 0 = .ok (.aload_n 0, 1) := dk_42 (dk_at dksX0_farOf_0 0 rfl rfl)
theorem dX0_farOf_1 : decode cX0_farOf 1 = .ok (.getfield 33, 3) := dk_180 0 33 (dk_at dksX0_farOf_0 1 rfl rfl)
theorem dX0_farOf_4 : decode cX0_farOf 4 = .ok (.iload_n 1, 1) := dk_27 (dk_at dksX0_farOf_0 4 rfl rfl)
theorem dX0_farOf_5 : decode cX0_farOf 5 = .ok (.aaload, 1) := dk_50 (dk_at dksX0_farOf_0 5 rfl rfl)
theorem dX0_farOf_6 : decode cX0_farOf 6 = .ok (.getfield 37, 3) := dk_180 0 37 (dk_at dksX0_farOf_0 6 rfl rfl)
theorem dX0_farOf_9 : decode cX0_farOf 9 = .ok (.aload_n 0, 1) := dk_42 (dk_at dksX0_farOf_0 9 rfl rfl)
theorem dX0_farOf_10 : decode cX0_farOf 10 = .ok (.getfield 33, 3) := dk_180 0 33 (dk_at dksX0_farOf_0 10 rfl rfl)
theorem dX0_farOf_13 : decode cX0_farOf 13 = .ok (.iload_n 2, 1) := dk_28 (dk_at dksX0_farOf_0 13 rfl rfl)
theorem dX0_farOf_14 : decode cX0_farOf 14 = .ok (.aaload, 1) := dk_50 (dk_at dksX0_farOf_0 14 rfl rfl)
theorem dX0_farOf_15 : decode cX0_farOf 15 = .ok (.getfield 37, 3) := dk_180 0 37 (dk_at dksX0_farOf_0 15 rfl rfl)
theorem dX0_farOf_18 : decode cX0_farOf 18 = .ok (.iadd, 1) := dk_96 (dk_at dksX0_farOf_0 18 rfl rfl)
theorem dX0_farOf_19 : decode cX0_farOf 19 = .ok (.iconst 2, 1) := dk_5 (dk_at dksX0_farOf_0 19 rfl rfl)
theorem dX0_farOf_20 : decode cX0_farOf 20 = .ok (.aload_n 0, 1) := dk_42 (dk_at dksX0_farOf_0 20 rfl rfl)
theorem dX0_farOf_21 : decode cX0_farOf 21 = .ok (.aload_n 0, 1) := dk_42 (dk_at dksX0_farOf_0 21 rfl rfl)
theorem dX0_farOf_22 : decode cX0_farOf 22 = .ok (.getfield 33, 3) := dk_180 0 33 (dk_at dksX0_farOf_1 0 rfl rfl)
theorem dX0_farOf_25 : decode cX0_farOf 25 = .ok (.iload_n 1, 1) := dk_27 (dk_at dksX0_farOf_1 3 rfl rfl)
theorem dX0_farOf_26 : decode cX0_farOf 26 = .ok (.aaload, 1) := dk_50 (dk_at dksX0_farOf_1 4 rfl rfl)
theorem dX0_farOf_27 : decode cX0_farOf 27 = .ok (.aload_n 0, 1) := dk_42 (dk_at dksX0_farOf_1 5 rfl rfl)
theorem dX0_farOf_28 : decode cX0_farOf 28 = .ok (.getfield 33, 3) := dk_180 0 33 (dk_at dksX0_farOf_1 6 rfl rfl)
theorem dX0_farOf_31 : decode cX0_farOf 31 = .ok (.iload_n 2, 1) := dk_28 (dk_at dksX0_farOf_1 9 rfl rfl)
theorem dX0_farOf_32 : decode cX0_farOf 32 = .ok (.aaload, 1) := dk_50 (dk_at dksX0_farOf_1 10 rfl rfl)
theorem dX0_farOf_33 : decode cX0_farOf 33 = .ok (.invokevirtual 172, 3) := dk_182 0 172 (dk_at dksX0_farOf_1 11 rfl rfl)
theorem dX0_farOf_36 : decode cX0_farOf 36 = .ok (.imul, 1) := dk_104 (dk_at dksX0_farOf_1 14 rfl rfl)
theorem dX0_farOf_37 : decode cX0_farOf 37 = .ok (.isub, 1) := dk_100 (dk_at dksX0_farOf_1 15 rfl rfl)
theorem dX0_farOf_38 : decode cX0_farOf 38 = .ok (.ireturn, 1) := dk_172 (dk_at dksX0_farOf_1 16 rfl rfl)
def dkwX0_nearest_0 : List UInt8 := [42, 27, 182, 0, 86, 153, 0, 11, 42, 27, 182, 1, 1, 167, 0, 5, 16, 254, 172]
abbrev dktX0_nearest_0 : List UInt8 := dkwX0_nearest_0 ++ []
theorem dksX0_nearest_0 : cX0_nearest.data.toList.drop 0 = dktX0_nearest_0 := by decide +kernel
theorem dX0_nearest_0 : decode cX0_nearest 0 = .ok (.aload_n 0, 1) := dk_42 (dk_at dksX0_nearest_0 0 rfl rfl)
theorem dX0_nearest_1 : decode cX0_nearest 1 = .ok (.iload_n 1, 1) := dk_27 (dk_at dksX0_nearest_0 1 rfl rfl)
theorem dX0_nearest_2 : decode cX0_nearest 2 = .ok (.invokevirtual 86, 3) := dk_182 0 86 (dk_at dksX0_nearest_0 2 rfl rfl)
theorem dX0_nearest_5 : decode cX0_nearest 5 = .ok (.ifCond .eq 11, 3) := dk_153 0 11 (dk_at dksX0_nearest_0 5 rfl rfl)
theorem dX0_nearest_8 : decode cX0_nearest 8 = .ok (.aload_n 0, 1) := dk_42 (dk_at dksX0_nearest_0 8 rfl rfl)
theorem dX0_nearest_9 : decode cX0_nearest 9 = .ok (.iload_n 1, 1) := dk_27 (dk_at dksX0_nearest_0 9 rfl rfl)
theorem dX0_nearest_10 : decode cX0_nearest 10 = .ok (.invokevirtual 257, 3) := dk_182 1 1 (dk_at dksX0_nearest_0 10 rfl rfl)
theorem dX0_nearest_13 : decode cX0_nearest 13 = .ok (.goto 5, 3) := dk_167 0 5 (dk_at dksX0_nearest_0 13 rfl rfl)
theorem dX0_nearest_16 : decode cX0_nearest 16 = .ok (.bipush (-2), 2) := dk_16 254 (dk_at dksX0_nearest_0 16 rfl rfl)
theorem dX0_nearest_18 : decode cX0_nearest 18 = .ok (.ireturn, 1) := dk_172 (dk_at dksX0_nearest_0 18 rfl rfl)
def dkwX0_nearestOf_2 : List UInt8 := [167, 255, 214, 28, 172]
abbrev dktX0_nearestOf_2 : List UInt8 := dkwX0_nearestOf_2 ++ []
def dkwX0_nearestOf_1 : List UInt8 := [29, 182, 0, 254, 42, 27, 28, 182, 0, 254, 162, 0, 7, 29, 167, 0, 4, 28, 61, 132, 3, 1]
abbrev dktX0_nearestOf_1 : List UInt8 := dkwX0_nearestOf_1 ++ dktX0_nearestOf_2
def dkwX0_nearestOf_0 : List UInt8 := [2, 61, 3, 62, 29, 42, 180, 0, 25, 162, 0, 40, 29, 27, 159, 0, 27, 28, 2, 159, 0, 18, 42, 27]
abbrev dktX0_nearestOf_0 : List UInt8 := dkwX0_nearestOf_0 ++ dktX0_nearestOf_1
theorem dksX0_nearestOf_0 : cX0_nearestOf.data.toList.drop 0 = dktX0_nearestOf_0 := by decide +kernel
theorem dksX0_nearestOf_1 : cX0_nearestOf.data.toList.drop 24 = dktX0_nearestOf_1 := dk_seg dksX0_nearestOf_0 24 rfl rfl
theorem dksX0_nearestOf_2 : cX0_nearestOf.data.toList.drop 46 = dktX0_nearestOf_2 := dk_seg dksX0_nearestOf_1 22 rfl rfl
theorem dX0_nearestOf_0 : decode cX0_nearestOf 0 = .ok (.iconst (-1), 1) := dk_2 (dk_at dksX0_nearestOf_0 0 rfl rfl)
theorem dX0_nearestOf_1 : decode cX0_nearestOf 1 = .ok (.istore_n 2, 1) := dk_61 (dk_at dksX0_nearestOf_0 1 rfl rfl)
theorem dX0_nearestOf_2 : decode cX0_nearestOf 2 = .ok (.iconst 0, 1) := dk_3 (dk_at dksX0_nearestOf_0 2 rfl rfl)
theorem dX0_nearestOf_3 : decode cX0_nearestOf 3 = .ok (.istore_n 3, 1) := dk_62 (dk_at dksX0_nearestOf_0 3 rfl rfl)
theorem dX0_nearestOf_4 : decode cX0_nearestOf 4 = .ok (.iload_n 3, 1) := dk_29 (dk_at dksX0_nearestOf_0 4 rfl rfl)
theorem dX0_nearestOf_5 : decode cX0_nearestOf 5 = .ok (.aload_n 0, 1) := dk_42 (dk_at dksX0_nearestOf_0 5 rfl rfl)
theorem dX0_nearestOf_6 : decode cX0_nearestOf 6 = .ok (.getfield 25, 3) := dk_180 0 25 (dk_at dksX0_nearestOf_0 6 rfl rfl)
theorem dX0_nearestOf_9 : decode cX0_nearestOf 9 = .ok (.if_icmp .ge 40, 3) := dk_162 0 40 (dk_at dksX0_nearestOf_0 9 rfl rfl)
theorem dX0_nearestOf_12 : decode cX0_nearestOf 12 = .ok (.iload_n 3, 1) := dk_29 (dk_at dksX0_nearestOf_0 12 rfl rfl)
theorem dX0_nearestOf_13 : decode cX0_nearestOf 13 = .ok (.iload_n 1, 1) := dk_27 (dk_at dksX0_nearestOf_0 13 rfl rfl)
theorem dX0_nearestOf_14 : decode cX0_nearestOf 14 = .ok (.if_icmp .eq 27, 3) := dk_159 0 27 (dk_at dksX0_nearestOf_0 14 rfl rfl)
theorem dX0_nearestOf_17 : decode cX0_nearestOf 17 = .ok (.iload_n 2, 1) := dk_28 (dk_at dksX0_nearestOf_0 17 rfl rfl)
theorem dX0_nearestOf_18 : decode cX0_nearestOf 18 = .ok (.iconst (-1), 1) := dk_2 (dk_at dksX0_nearestOf_0 18 rfl rfl)
theorem dX0_nearestOf_19 : decode cX0_nearestOf 19 = .ok (.if_icmp .eq 18, 3) := dk_159 0 18 (dk_at dksX0_nearestOf_0 19 rfl rfl)
theorem dX0_nearestOf_22 : decode cX0_nearestOf 22 = .ok (.aload_n 0, 1) := dk_42 (dk_at dksX0_nearestOf_0 22 rfl rfl)
theorem dX0_nearestOf_23 : decode cX0_nearestOf 23 = .ok (.iload_n 1, 1) := dk_27 (dk_at dksX0_nearestOf_0 23 rfl rfl)
theorem dX0_nearestOf_24 : decode cX0_nearestOf 24 = .ok (.iload_n 3, 1) := dk_29 (dk_at dksX0_nearestOf_1 0 rfl rfl)
theorem dX0_nearestOf_25 : decode cX0_nearestOf 25 = .ok (.invokevirtual 254, 3) := dk_182 0 254 (dk_at dksX0_nearestOf_1 1 rfl rfl)
theorem dX0_nearestOf_28 : decode cX0_nearestOf 28 = .ok (.aload_n 0, 1) := dk_42 (dk_at dksX0_nearestOf_1 4 rfl rfl)
theorem dX0_nearestOf_29 : decode cX0_nearestOf 29 = .ok (.iload_n 1, 1) := dk_27 (dk_at dksX0_nearestOf_1 5 rfl rfl)
theorem dX0_nearestOf_30 : decode cX0_nearestOf 30 = .ok (.iload_n 2, 1) := dk_28 (dk_at dksX0_nearestOf_1 6 rfl rfl)
theorem dX0_nearestOf_31 : decode cX0_nearestOf 31 = .ok (.invokevirtual 254, 3) := dk_182 0 254 (dk_at dksX0_nearestOf_1 7 rfl rfl)
theorem dX0_nearestOf_34 : decode cX0_nearestOf 34 = .ok (.if_icmp .ge 7, 3) := dk_162 0 7 (dk_at dksX0_nearestOf_1 10 rfl rfl)
theorem dX0_nearestOf_37 : decode cX0_nearestOf 37 = .ok (.iload_n 3, 1) := dk_29 (dk_at dksX0_nearestOf_1 13 rfl rfl)
theorem dX0_nearestOf_38 : decode cX0_nearestOf 38 = .ok (.goto 4, 3) := dk_167 0 4 (dk_at dksX0_nearestOf_1 14 rfl rfl)
theorem dX0_nearestOf_41 : decode cX0_nearestOf 41 = .ok (.iload_n 2, 1) := dk_28 (dk_at dksX0_nearestOf_1 17 rfl rfl)
theorem dX0_nearestOf_42 : decode cX0_nearestOf 42 = .ok (.istore_n 2, 1) := dk_61 (dk_at dksX0_nearestOf_1 18 rfl rfl)
theorem dX0_nearestOf_43 : decode cX0_nearestOf 43 = .ok (.iinc 3 1, 3) := dk_132 3 1 (dk_at dksX0_nearestOf_1 19 rfl rfl)
theorem dX0_nearestOf_46 : decode cX0_nearestOf 46 = .ok (.goto (-42), 3) := dk_167 255 214 (dk_at dksX0_nearestOf_2 0 rfl rfl)
theorem dX0_nearestOf_49 : decode cX0_nearestOf 49 = .ok (.iload_n 2, 1) := dk_28 (dk_at dksX0_nearestOf_2 3 rfl rfl)
theorem dX0_nearestOf_50 : decode cX0_nearestOf 50 = .ok (.ireturn, 1) := dk_172 (dk_at dksX0_nearestOf_2 4 rfl rfl)
def dkwX0_mothers_0 : List UInt8 := [42, 27, 182, 0, 86, 153, 0, 11, 42, 27, 182, 1, 4, 167, 0, 5, 16, 254, 172]
abbrev dktX0_mothers_0 : List UInt8 := dkwX0_mothers_0 ++ []
theorem dksX0_mothers_0 : cX0_mothers.data.toList.drop 0 = dktX0_mothers_0 := by decide +kernel
theorem dX0_mothers_0 : decode cX0_mothers 0 = .ok (.aload_n 0, 1) := dk_42 (dk_at dksX0_mothers_0 0 rfl rfl)
theorem dX0_mothers_1 : decode cX0_mothers 1 = .ok (.iload_n 1, 1) := dk_27 (dk_at dksX0_mothers_0 1 rfl rfl)
theorem dX0_mothers_2 : decode cX0_mothers 2 = .ok (.invokevirtual 86, 3) := dk_182 0 86 (dk_at dksX0_mothers_0 2 rfl rfl)
theorem dX0_mothers_5 : decode cX0_mothers 5 = .ok (.ifCond .eq 11, 3) := dk_153 0 11 (dk_at dksX0_mothers_0 5 rfl rfl)
theorem dX0_mothers_8 : decode cX0_mothers 8 = .ok (.aload_n 0, 1) := dk_42 (dk_at dksX0_mothers_0 8 rfl rfl)
theorem dX0_mothers_9 : decode cX0_mothers 9 = .ok (.iload_n 1, 1) := dk_27 (dk_at dksX0_mothers_0 9 rfl rfl)
theorem dX0_mothers_10 : decode cX0_mothers 10 = .ok (.invokevirtual 260, 3) := dk_182 1 4 (dk_at dksX0_mothers_0 10 rfl rfl)
theorem dX0_mothers_13 : decode cX0_mothers 13 = .ok (.goto 5, 3) := dk_167 0 5 (dk_at dksX0_mothers_0 13 rfl rfl)
theorem dX0_mothers_16 : decode cX0_mothers 16 = .ok (.bipush (-2), 2) := dk_16 254 (dk_at dksX0_mothers_0 16 rfl rfl)
theorem dX0_mothers_18 : decode cX0_mothers 18 = .ok (.ireturn, 1) := dk_172 (dk_at dksX0_mothers_0 18 rfl rfl)
def dkwX0_mothersOf_2 : List UInt8 := [120, 167, 0, 4, 3, 128, 61, 132, 3, 1, 167, 255, 202, 28, 172]
abbrev dktX0_mothersOf_2 : List UInt8 := dkwX0_mothersOf_2 ++ []
def dkwX0_mothersOf_1 : List UInt8 := [50, 42, 180, 0, 33, 29, 50, 182, 0, 172, 42, 180, 0, 33, 29, 50, 180, 0, 37, 160, 0, 9, 4, 29]
abbrev dktX0_mothersOf_1 : List UInt8 := dkwX0_mothersOf_1 ++ dktX0_mothersOf_2
def dkwX0_mothersOf_0 : List UInt8 := [3, 61, 3, 62, 29, 42, 180, 0, 25, 162, 0, 52, 28, 29, 27, 159, 0, 37, 42, 42, 180, 0, 33, 27]
abbrev dktX0_mothersOf_0 : List UInt8 := dkwX0_mothersOf_0 ++ dktX0_mothersOf_1
theorem dksX0_mothersOf_0 : cX0_mothersOf.data.toList.drop 0 = dktX0_mothersOf_0 := by decide +kernel
theorem dksX0_mothersOf_1 : cX0_mothersOf.data.toList.drop 24 = dktX0_mothersOf_1 := dk_seg dksX0_mothersOf_0 24 rfl rfl
theorem dksX0_mothersOf_2 : cX0_mothersOf.data.toList.drop 48 = dktX0_mothersOf_2 := dk_seg dksX0_mothersOf_1 24 rfl rfl
theorem dX0_mothersOf_0 : decode cX0_mothersOf 0 = .ok (.iconst 0, 1) := dk_3 (dk_at dksX0_mothersOf_0 0 rfl rfl)
theorem dX0_mothersOf_1 : decode cX0_mothersOf 1 = .ok (.istore_n 2, 1) := dk_61 (dk_at dksX0_mothersOf_0 1 rfl rfl)
theorem dX0_mothersOf_2 : decode cX0_mothersOf 2 = .ok (.iconst 0, 1) := dk_3 (dk_at dksX0_mothersOf_0 2 rfl rfl)
theorem dX0_mothersOf_3 : decode cX0_mothersOf 3 = .ok (.istore_n 3, 1) := dk_62 (dk_at dksX0_mothersOf_0 3 rfl rfl)
theorem dX0_mothersOf_4 : decode cX0_mothersOf 4 = .ok (.iload_n 3, 1) := dk_29 (dk_at dksX0_mothersOf_0 4 rfl rfl)
theorem dX0_mothersOf_5 : decode cX0_mothersOf 5 = .ok (.aload_n 0, 1) := dk_42 (dk_at dksX0_mothersOf_0 5 rfl rfl)
theorem dX0_mothersOf_6 : decode cX0_mothersOf 6 = .ok (.getfield 25, 3) := dk_180 0 25 (dk_at dksX0_mothersOf_0 6 rfl rfl)
theorem dX0_mothersOf_9 : decode cX0_mothersOf 9 = .ok (.if_icmp .ge 52, 3) := dk_162 0 52 (dk_at dksX0_mothersOf_0 9 rfl rfl)
theorem dX0_mothersOf_12 : decode cX0_mothersOf 12 = .ok (.iload_n 2, 1) := dk_28 (dk_at dksX0_mothersOf_0 12 rfl rfl)
theorem dX0_mothersOf_13 : decode cX0_mothersOf 13 = .ok (.iload_n 3, 1) := dk_29 (dk_at dksX0_mothersOf_0 13 rfl rfl)
theorem dX0_mothersOf_14 : decode cX0_mothersOf 14 = .ok (.iload_n 1, 1) := dk_27 (dk_at dksX0_mothersOf_0 14 rfl rfl)
theorem dX0_mothersOf_15 : decode cX0_mothersOf 15 = .ok (.if_icmp .eq 37, 3) := dk_159 0 37 (dk_at dksX0_mothersOf_0 15 rfl rfl)
theorem dX0_mothersOf_18 : decode cX0_mothersOf 18 = .ok (.aload_n 0, 1) := dk_42 (dk_at dksX0_mothersOf_0 18 rfl rfl)
theorem dX0_mothersOf_19 : decode cX0_mothersOf 19 = .ok (.aload_n 0, 1) := dk_42 (dk_at dksX0_mothersOf_0 19 rfl rfl)
theorem dX0_mothersOf_20 : decode cX0_mothersOf 20 = .ok (.getfield 33, 3) := dk_180 0 33 (dk_at dksX0_mothersOf_0 20 rfl rfl)
theorem dX0_mothersOf_23 : decode cX0_mothersOf 23 = .ok (.iload_n 1, 1) := dk_27 (dk_at dksX0_mothersOf_0 23 rfl rfl)
theorem dX0_mothersOf_24 : decode cX0_mothersOf 24 = .ok (.aaload, 1) := dk_50 (dk_at dksX0_mothersOf_1 0 rfl rfl)
theorem dX0_mothersOf_25 : decode cX0_mothersOf 25 = .ok (.aload_n 0, 1) := dk_42 (dk_at dksX0_mothersOf_1 1 rfl rfl)
theorem dX0_mothersOf_26 : decode cX0_mothersOf 26 = .ok (.getfield 33, 3) := dk_180 0 33 (dk_at dksX0_mothersOf_1 2 rfl rfl)
theorem dX0_mothersOf_29 : decode cX0_mothersOf 29 = .ok (.iload_n 3, 1) := dk_29 (dk_at dksX0_mothersOf_1 5 rfl rfl)
theorem dX0_mothersOf_30 : decode cX0_mothersOf 30 = .ok (.aaload, 1) := dk_50 (dk_at dksX0_mothersOf_1 6 rfl rfl)
theorem dX0_mothersOf_31 : decode cX0_mothersOf 31 = .ok (.invokevirtual 172, 3) := dk_182 0 172 (dk_at dksX0_mothersOf_1 7 rfl rfl)
theorem dX0_mothersOf_34 : decode cX0_mothersOf 34 = .ok (.aload_n 0, 1) := dk_42 (dk_at dksX0_mothersOf_1 10 rfl rfl)
theorem dX0_mothersOf_35 : decode cX0_mothersOf 35 = .ok (.getfield 33, 3) := dk_180 0 33 (dk_at dksX0_mothersOf_1 11 rfl rfl)
theorem dX0_mothersOf_38 : decode cX0_mothersOf 38 = .ok (.iload_n 3, 1) := dk_29 (dk_at dksX0_mothersOf_1 14 rfl rfl)
theorem dX0_mothersOf_39 : decode cX0_mothersOf 39 = .ok (.aaload, 1) := dk_50 (dk_at dksX0_mothersOf_1 15 rfl rfl)
theorem dX0_mothersOf_40 : decode cX0_mothersOf 40 = .ok (.getfield 37, 3) := dk_180 0 37 (dk_at dksX0_mothersOf_1 16 rfl rfl)
theorem dX0_mothersOf_43 : decode cX0_mothersOf 43 = .ok (.if_icmp .ne 9, 3) := dk_160 0 9 (dk_at dksX0_mothersOf_1 19 rfl rfl)
theorem dX0_mothersOf_46 : decode cX0_mothersOf 46 = .ok (.iconst 1, 1) := dk_4 (dk_at dksX0_mothersOf_1 22 rfl rfl)
theorem dX0_mothersOf_47 : decode cX0_mothersOf 47 = .ok (.iload_n 3, 1) := dk_29 (dk_at dksX0_mothersOf_1 23 rfl rfl)
theorem dX0_mothersOf_48 : decode cX0_mothersOf 48 = .ok (.ishl, 1) := dk_120 (dk_at dksX0_mothersOf_2 0 rfl rfl)
theorem dX0_mothersOf_49 : decode cX0_mothersOf 49 = .ok (.goto 4, 3) := dk_167 0 4 (dk_at dksX0_mothersOf_2 1 rfl rfl)
theorem dX0_mothersOf_52 : decode cX0_mothersOf 52 = .ok (.iconst 0, 1) := dk_3 (dk_at dksX0_mothersOf_2 4 rfl rfl)
theorem dX0_mothersOf_53 : decode cX0_mothersOf 53 = .ok (.ior, 1) := dk_128 (dk_at dksX0_mothersOf_2 5 rfl rfl)
theorem dX0_mothersOf_54 : decode cX0_mothersOf 54 = .ok (.istore_n 2, 1) := dk_61 (dk_at dksX0_mothersOf_2 6 rfl rfl)
theorem dX0_mothersOf_55 : decode cX0_mothersOf 55 = .ok (.iinc 3 1, 3) := dk_132 3 1 (dk_at dksX0_mothersOf_2 7 rfl rfl)
theorem dX0_mothersOf_58 : decode cX0_mothersOf 58 = .ok (.goto (-54), 3) := dk_167 255 202 (dk_at dksX0_mothersOf_2 10 rfl rfl)
theorem dX0_mothersOf_61 : decode cX0_mothersOf 61 = .ok (.iload_n 2, 1) := dk_28 (dk_at dksX0_mothersOf_2 13 rfl rfl)
theorem dX0_mothersOf_62 : decode cX0_mothersOf 62 = .ok (.ireturn, 1) := dk_172 (dk_at dksX0_mothersOf_2 14 rfl rfl)
def dkwX0_tells_1 : List UInt8 := [16, 254, 172]
abbrev dktX0_tells_1 : List UInt8 := dkwX0_tells_1 ++ []
def dkwX0_tells_0 : List UInt8 := [42, 27, 182, 0, 86, 153, 0, 19, 28, 184, 0, 9, 153, 0, 12, 42, 27, 28, 182, 1, 13, 167, 0, 5]
abbrev dktX0_tells_0 : List UInt8 := dkwX0_tells_0 ++ dktX0_tells_1
theorem dksX0_tells_0 : cX0_tells.data.toList.drop 0 = dktX0_tells_0 := by decide +kernel
theorem dksX0_tells_1 : cX0_tells.data.toList.drop 24 = dktX0_tells_1 := dk_seg dksX0_tells_0 24 rfl rfl
theorem dX0_tells_0 : decode cX0_tells 0 = .ok (.aload_n 0, 1) := dk_42 (dk_at dksX0_tells_0 0 rfl rfl)
theorem dX0_tells_1 : decode cX0_tells 1 = .ok (.iload_n 1, 1) := dk_27 (dk_at dksX0_tells_0 1 rfl rfl)
theorem dX0_tells_2 : decode cX0_tells 2 = .ok (.invokevirtual 86, 3) := dk_182 0 86 (dk_at dksX0_tells_0 2 rfl rfl)
theorem dX0_tells_5 : decode cX0_tells 5 = .ok (.ifCond .eq 19, 3) := dk_153 0 19 (dk_at dksX0_tells_0 5 rfl rfl)
theorem dX0_tells_8 : decode cX0_tells 8 = .ok (.iload_n 2, 1) := dk_28 (dk_at dksX0_tells_0 8 rfl rfl)
theorem dX0_tells_9 : decode cX0_tells 9 = .ok (.invokestatic 9, 3) := dk_184 0 9 (dk_at dksX0_tells_0 9 rfl rfl)
theorem dX0_tells_12 : decode cX0_tells 12 = .ok (.ifCond .eq 12, 3) := dk_153 0 12 (dk_at dksX0_tells_0 12 rfl rfl)
theorem dX0_tells_15 : decode cX0_tells 15 = .ok (.aload_n 0, 1) := dk_42 (dk_at dksX0_tells_0 15 rfl rfl)
theorem dX0_tells_16 : decode cX0_tells 16 = .ok (.iload_n 1, 1) := dk_27 (dk_at dksX0_tells_0 16 rfl rfl)
theorem dX0_tells_17 : decode cX0_tells 17 = .ok (.iload_n 2, 1) := dk_28 (dk_at dksX0_tells_0 17 rfl rfl)
theorem dX0_tells_18 : decode cX0_tells 18 = .ok (.invokevirtual 269, 3) := dk_182 1 13 (dk_at dksX0_tells_0 18 rfl rfl)
theorem dX0_tells_21 : decode cX0_tells 21 = .ok (.goto 5, 3) := dk_167 0 5 (dk_at dksX0_tells_0 21 rfl rfl)
theorem dX0_tells_24 : decode cX0_tells 24 = .ok (.bipush (-2), 2) := dk_16 254 (dk_at dksX0_tells_1 0 rfl rfl)
theorem dX0_tells_26 : decode cX0_tells 26 = .ok (.ireturn, 1) := dk_172 (dk_at dksX0_tells_1 2 rfl rfl)
def dkwX0_tellsOf_5 : List UInt8 := [29, 2, 159, 0, 8, 28, 4, 160, 0, 7, 29, 167, 0, 7, 29, 184, 1, 7, 172]
abbrev dktX0_tellsOf_5 : List UInt8 := dkwX0_tellsOf_5 ++ []
def dkwX0_tellsOf_4 : List UInt8 := [132, 6, 1, 167, 255, 203, 21, 5, 153, 0, 8, 21, 4, 167, 0, 4, 29, 62, 132, 4, 1, 167, 255, 150]
abbrev dktX0_tellsOf_4 : List UInt8 := dkwX0_tellsOf_4 ++ dktX0_tellsOf_5
def dkwX0_tellsOf_3 : List UInt8 := [180, 0, 33, 21, 6, 50, 182, 1, 10, 21, 4, 126, 153, 0, 7, 4, 167, 0, 4, 3, 54, 5]
abbrev dktX0_tellsOf_3 : List UInt8 := dkwX0_tellsOf_3 ++ dktX0_tellsOf_4
def dkwX0_tellsOf_2 : List UInt8 := [162, 0, 50, 21, 5, 153, 0, 45, 21, 6, 27, 159, 0, 26, 42, 42, 180, 0, 33, 27, 50, 42]
abbrev dktX0_tellsOf_2 : List UInt8 := dkwX0_tellsOf_2 ++ dktX0_tellsOf_3
def dkwX0_tellsOf_1 : List UInt8 := [184, 1, 7, 162, 0, 7, 4, 167, 0, 4, 3, 54, 5, 3, 54, 6, 21, 6, 42, 180, 0, 25]
abbrev dktX0_tellsOf_1 : List UInt8 := dkwX0_tellsOf_1 ++ dktX0_tellsOf_2
def dkwX0_tellsOf_0 : List UInt8 := [2, 62, 3, 54, 4, 21, 4, 17, 16, 0, 162, 0, 104, 29, 2, 159, 0, 15, 21, 4, 184, 1, 7, 29]
abbrev dktX0_tellsOf_0 : List UInt8 := dkwX0_tellsOf_0 ++ dktX0_tellsOf_1
theorem dksX0_tellsOf_0 : cX0_tellsOf.data.toList.drop 0 = dktX0_tellsOf_0 := by decide +kernel
theorem dksX0_tellsOf_1 : cX0_tellsOf.data.toList.drop 24 = dktX0_tellsOf_1 := dk_seg dksX0_tellsOf_0 24 rfl rfl
theorem dksX0_tellsOf_2 : cX0_tellsOf.data.toList.drop 46 = dktX0_tellsOf_2 := dk_seg dksX0_tellsOf_1 22 rfl rfl
theorem dksX0_tellsOf_3 : cX0_tellsOf.data.toList.drop 68 = dktX0_tellsOf_3 := dk_seg dksX0_tellsOf_2 22 rfl rfl
theorem dksX0_tellsOf_4 : cX0_tellsOf.data.toList.drop 90 = dktX0_tellsOf_4 := dk_seg dksX0_tellsOf_3 22 rfl rfl
theorem dksX0_tellsOf_5 : cX0_tellsOf.data.toList.drop 114 = dktX0_tellsOf_5 := dk_seg dksX0_tellsOf_4 24 rfl rfl
theorem dX0_tellsOf_0 : decode cX0_tellsOf 0 = .ok (.iconst (-1), 1) := dk_2 (dk_at dksX0_tellsOf_0 0 rfl rfl)
theorem dX0_tellsOf_1 : decode cX0_tellsOf 1 = .ok (.istore_n 3, 1) := dk_62 (dk_at dksX0_tellsOf_0 1 rfl rfl)
theorem dX0_tellsOf_2 : decode cX0_tellsOf 2 = .ok (.iconst 0, 1) := dk_3 (dk_at dksX0_tellsOf_0 2 rfl rfl)
theorem dX0_tellsOf_3 : decode cX0_tellsOf 3 = .ok (.istore 4, 2) := dk_54 4 (dk_at dksX0_tellsOf_0 3 rfl rfl)
theorem dX0_tellsOf_5 : decode cX0_tellsOf 5 = .ok (.iload 4, 2) := dk_21 4 (dk_at dksX0_tellsOf_0 5 rfl rfl)
theorem dX0_tellsOf_7 : decode cX0_tellsOf 7 = .ok (.sipush 4096, 3) := dk_17 16 0 (dk_at dksX0_tellsOf_0 7 rfl rfl)
theorem dX0_tellsOf_10 : decode cX0_tellsOf 10 = .ok (.if_icmp .ge 104, 3) := dk_162 0 104 (dk_at dksX0_tellsOf_0 10 rfl rfl)
theorem dX0_tellsOf_13 : decode cX0_tellsOf 13 = .ok (.iload_n 3, 1) := dk_29 (dk_at dksX0_tellsOf_0 13 rfl rfl)
theorem dX0_tellsOf_14 : decode cX0_tellsOf 14 = .ok (.iconst (-1), 1) := dk_2 (dk_at dksX0_tellsOf_0 14 rfl rfl)
theorem dX0_tellsOf_15 : decode cX0_tellsOf 15 = .ok (.if_icmp .eq 15, 3) := dk_159 0 15 (dk_at dksX0_tellsOf_0 15 rfl rfl)
theorem dX0_tellsOf_18 : decode cX0_tellsOf 18 = .ok (.iload 4, 2) := dk_21 4 (dk_at dksX0_tellsOf_0 18 rfl rfl)
theorem dX0_tellsOf_20 : decode cX0_tellsOf 20 = .ok (.invokestatic 263, 3) := dk_184 1 7 (dk_at dksX0_tellsOf_0 20 rfl rfl)
theorem dX0_tellsOf_23 : decode cX0_tellsOf 23 = .ok (.iload_n 3, 1) := dk_29 (dk_at dksX0_tellsOf_0 23 rfl rfl)
theorem dX0_tellsOf_24 : decode cX0_tellsOf 24 = .ok (.invokestatic 263, 3) := dk_184 1 7 (dk_at dksX0_tellsOf_1 0 rfl rfl)
theorem dX0_tellsOf_27 : decode cX0_tellsOf 27 = .ok (.if_icmp .ge 7, 3) := dk_162 0 7 (dk_at dksX0_tellsOf_1 3 rfl rfl)
theorem dX0_tellsOf_30 : decode cX0_tellsOf 30 = .ok (.iconst 1, 1) := dk_4 (dk_at dksX0_tellsOf_1 6 rfl rfl)
theorem dX0_tellsOf_31 : decode cX0_tellsOf 31 = .ok (.goto 4, 3) := dk_167 0 4 (dk_at dksX0_tellsOf_1 7 rfl rfl)
theorem dX0_tellsOf_34 : decode cX0_tellsOf 34 = .ok (.iconst 0, 1) := dk_3 (dk_at dksX0_tellsOf_1 10 rfl rfl)
theorem dX0_tellsOf_35 : decode cX0_tellsOf 35 = .ok (.istore 5, 2) := dk_54 5 (dk_at dksX0_tellsOf_1 11 rfl rfl)
theorem dX0_tellsOf_37 : decode cX0_tellsOf 37 = .ok (.iconst 0, 1) := dk_3 (dk_at dksX0_tellsOf_1 13 rfl rfl)
theorem dX0_tellsOf_38 : decode cX0_tellsOf 38 = .ok (.istore 6, 2) := dk_54 6 (dk_at dksX0_tellsOf_1 14 rfl rfl)
theorem dX0_tellsOf_40 : decode cX0_tellsOf 40 = .ok (.iload 6, 2) := dk_21 6 (dk_at dksX0_tellsOf_1 16 rfl rfl)
theorem dX0_tellsOf_42 : decode cX0_tellsOf 42 = .ok (.aload_n 0, 1) := dk_42 (dk_at dksX0_tellsOf_1 18 rfl rfl)
theorem dX0_tellsOf_43 : decode cX0_tellsOf 43 = .ok (.getfield 25, 3) := dk_180 0 25 (dk_at dksX0_tellsOf_1 19 rfl rfl)
theorem dX0_tellsOf_46 : decode cX0_tellsOf 46 = .ok (.if_icmp .ge 50, 3) := dk_162 0 50 (dk_at dksX0_tellsOf_2 0 rfl rfl)
theorem dX0_tellsOf_49 : decode cX0_tellsOf 49 = .ok (.iload 5, 2) := dk_21 5 (dk_at dksX0_tellsOf_2 3 rfl rfl)
theorem dX0_tellsOf_51 : decode cX0_tellsOf 51 = .ok (.ifCond .eq 45, 3) := dk_153 0 45 (dk_at dksX0_tellsOf_2 5 rfl rfl)
theorem dX0_tellsOf_54 : decode cX0_tellsOf 54 = .ok (.iload 6, 2) := dk_21 6 (dk_at dksX0_tellsOf_2 8 rfl rfl)
theorem dX0_tellsOf_56 : decode cX0_tellsOf 56 = .ok (.iload_n 1, 1) := dk_27 (dk_at dksX0_tellsOf_2 10 rfl rfl)
theorem dX0_tellsOf_57 : decode cX0_tellsOf 57 = .ok (.if_icmp .eq 26, 3) := dk_159 0 26 (dk_at dksX0_tellsOf_2 11 rfl rfl)
theorem dX0_tellsOf_60 : decode cX0_tellsOf 60 = .ok (.aload_n 0, 1) := dk_42 (dk_at dksX0_tellsOf_2 14 rfl rfl)
theorem dX0_tellsOf_61 : decode cX0_tellsOf 61 = .ok (.aload_n 0, 1) := dk_42 (dk_at dksX0_tellsOf_2 15 rfl rfl)
theorem dX0_tellsOf_62 : decode cX0_tellsOf 62 = .ok (.getfield 33, 3) := dk_180 0 33 (dk_at dksX0_tellsOf_2 16 rfl rfl)
theorem dX0_tellsOf_65 : decode cX0_tellsOf 65 = .ok (.iload_n 1, 1) := dk_27 (dk_at dksX0_tellsOf_2 19 rfl rfl)
theorem dX0_tellsOf_66 : decode cX0_tellsOf 66 = .ok (.aaload, 1) := dk_50 (dk_at dksX0_tellsOf_2 20 rfl rfl)
theorem dX0_tellsOf_67 : decode cX0_tellsOf 67 = .ok (.aload_n 0, 1) := dk_42 (dk_at dksX0_tellsOf_2 21 rfl rfl)
theorem dX0_tellsOf_68 : decode cX0_tellsOf 68 = .ok (.getfield 33, 3) := dk_180 0 33 (dk_at dksX0_tellsOf_3 0 rfl rfl)
theorem dX0_tellsOf_71 : decode cX0_tellsOf 71 = .ok (.iload 6, 2) := dk_21 6 (dk_at dksX0_tellsOf_3 3 rfl rfl)
theorem dX0_tellsOf_73 : decode cX0_tellsOf 73 = .ok (.aaload, 1) := dk_50 (dk_at dksX0_tellsOf_3 5 rfl rfl)
theorem dX0_tellsOf_74 : decode cX0_tellsOf 74 = .ok (.invokevirtual 266, 3) := dk_182 1 10 (dk_at dksX0_tellsOf_3 6 rfl rfl)
theorem dX0_tellsOf_77 : decode cX0_tellsOf 77 = .ok (.iload 4, 2) := dk_21 4 (dk_at dksX0_tellsOf_3 9 rfl rfl)
theorem dX0_tellsOf_79 : decode cX0_tellsOf 79 = .ok (.iand, 1) := dk_126 (dk_at dksX0_tellsOf_3 11 rfl rfl)
theorem dX0_tellsOf_80 : decode cX0_tellsOf 80 = .ok (.ifCond .eq 7, 3) := dk_153 0 7 (dk_at dksX0_tellsOf_3 12 rfl rfl)
theorem dX0_tellsOf_83 : decode cX0_tellsOf 83 = .ok (.iconst 1, 1) := dk_4 (dk_at dksX0_tellsOf_3 15 rfl rfl)
theorem dX0_tellsOf_84 : decode cX0_tellsOf 84 = .ok (.goto 4, 3) := dk_167 0 4 (dk_at dksX0_tellsOf_3 16 rfl rfl)
theorem dX0_tellsOf_87 : decode cX0_tellsOf 87 = .ok (.iconst 0, 1) := dk_3 (dk_at dksX0_tellsOf_3 19 rfl rfl)
theorem dX0_tellsOf_88 : decode cX0_tellsOf 88 = .ok (.istore 5, 2) := dk_54 5 (dk_at dksX0_tellsOf_3 20 rfl rfl)
theorem dX0_tellsOf_90 : decode cX0_tellsOf 90 = .ok (.iinc 6 1, 3) := dk_132 6 1 (dk_at dksX0_tellsOf_4 0 rfl rfl)
theorem dX0_tellsOf_93 : decode cX0_tellsOf 93 = .ok (.goto (-53), 3) := dk_167 255 203 (dk_at dksX0_tellsOf_4 3 rfl rfl)
theorem dX0_tellsOf_96 : decode cX0_tellsOf 96 = .ok (.iload 5, 2) := dk_21 5 (dk_at dksX0_tellsOf_4 6 rfl rfl)
theorem dX0_tellsOf_98 : decode cX0_tellsOf 98 = .ok (.ifCond .eq 8, 3) := dk_153 0 8 (dk_at dksX0_tellsOf_4 8 rfl rfl)
theorem dX0_tellsOf_101 : decode cX0_tellsOf 101 = .ok (.iload 4, 2) := dk_21 4 (dk_at dksX0_tellsOf_4 11 rfl rfl)
theorem dX0_tellsOf_103 : decode cX0_tellsOf 103 = .ok (.goto 4, 3) := dk_167 0 4 (dk_at dksX0_tellsOf_4 13 rfl rfl)
theorem dX0_tellsOf_106 : decode cX0_tellsOf 106 = .ok (.iload_n 3, 1) := dk_29 (dk_at dksX0_tellsOf_4 16 rfl rfl)
theorem dX0_tellsOf_107 : decode cX0_tellsOf 107 = .ok (.istore_n 3, 1) := dk_62 (dk_at dksX0_tellsOf_4 17 rfl rfl)
theorem dX0_tellsOf_108 : decode cX0_tellsOf 108 = .ok (.iinc 4 1, 3) := dk_132 4 1 (dk_at dksX0_tellsOf_4 18 rfl rfl)
theorem dX0_tellsOf_111 : decode cX0_tellsOf 111 = .ok (.goto (-106), 3) := dk_167 255 150 (dk_at dksX0_tellsOf_4 21 rfl rfl)
theorem dX0_tellsOf_114 : decode cX0_tellsOf 114 = .ok (.iload_n 3, 1) := dk_29 (dk_at dksX0_tellsOf_5 0 rfl rfl)
theorem dX0_tellsOf_115 : decode cX0_tellsOf 115 = .ok (.iconst (-1), 1) := dk_2 (dk_at dksX0_tellsOf_5 1 rfl rfl)
theorem dX0_tellsOf_116 : decode cX0_tellsOf 116 = .ok (.if_icmp .eq 8, 3) := dk_159 0 8 (dk_at dksX0_tellsOf_5 2 rfl rfl)
theorem dX0_tellsOf_119 : decode cX0_tellsOf 119 = .ok (.iload_n 2, 1) := dk_28 (dk_at dksX0_tellsOf_5 5 rfl rfl)
theorem dX0_tellsOf_120 : decode cX0_tellsOf 120 = .ok (.iconst 1, 1) := dk_4 (dk_at dksX0_tellsOf_5 6 rfl rfl)
theorem dX0_tellsOf_121 : decode cX0_tellsOf 121 = .ok (.if_icmp .ne 7, 3) := dk_160 0 7 (dk_at dksX0_tellsOf_5 7 rfl rfl)
theorem dX0_tellsOf_124 : decode cX0_tellsOf 124 = .ok (.iload_n 3, 1) := dk_29 (dk_at dksX0_tellsOf_5 10 rfl rfl)
theorem dX0_tellsOf_125 : decode cX0_tellsOf 125 = .ok (.goto 7, 3) := dk_167 0 7 (dk_at dksX0_tellsOf_5 11 rfl rfl)
theorem dX0_tellsOf_128 : decode cX0_tellsOf 128 = .ok (.iload_n 3, 1) := dk_29 (dk_at dksX0_tellsOf_5 14 rfl rfl)
theorem dX0_tellsOf_129 : decode cX0_tellsOf 129 = .ok (.invokestatic 263, 3) := dk_184 1 7 (dk_at dksX0_tellsOf_5 15 rfl rfl)
theorem dX0_tellsOf_132 : decode cX0_tellsOf 132 = .ok (.ireturn, 1) := dk_172 (dk_at dksX0_tellsOf_5 18 rfl rfl)
def dkwX0_many_0 : List UInt8 := [3, 60, 26, 61, 28, 153, 0, 16, 27, 28, 4, 126, 96, 60, 28, 4, 124, 61, 167, 255, 242, 27, 172]
abbrev dktX0_many_0 : List UInt8 := dkwX0_many_0 ++ []
theorem dksX0_many_0 : cX0_many.data.toList.drop 0 = dktX0_many_0 := by decide +kernel
theorem dX0_many_0 : decode cX0_many 0 = .ok (.iconst 0, 1) := dk_3 (dk_at dksX0_many_0 0 rfl rfl)
theorem dX0_many_1 : decode cX0_many 1 = .ok (.istore_n 1, 1) := dk_60 (dk_at dksX0_many_0 1 rfl rfl)
theorem dX0_many_2 : decode cX0_many 2 = .ok (.iload_n 0, 1) := dk_26 (dk_at dksX0_many_0 2 rfl rfl)
theorem dX0_many_3 : decode cX0_many 3 = .ok (.istore_n 2, 1) := dk_61 (dk_at dksX0_many_0 3 rfl rfl)
theorem dX0_many_4 : decode cX0_many 4 = .ok (.iload_n 2, 1) := dk_28 (dk_at dksX0_many_0 4 rfl rfl)
theorem dX0_many_5 : decode cX0_many 5 = .ok (.ifCond .eq 16, 3) := dk_153 0 16 (dk_at dksX0_many_0 5 rfl rfl)
theorem dX0_many_8 : decode cX0_many 8 = .ok (.iload_n 1, 1) := dk_27 (dk_at dksX0_many_0 8 rfl rfl)
theorem dX0_many_9 : decode cX0_many 9 = .ok (.iload_n 2, 1) := dk_28 (dk_at dksX0_many_0 9 rfl rfl)
theorem dX0_many_10 : decode cX0_many 10 = .ok (.iconst 1, 1) := dk_4 (dk_at dksX0_many_0 10 rfl rfl)
theorem dX0_many_11 : decode cX0_many 11 = .ok (.iand, 1) := dk_126 (dk_at dksX0_many_0 11 rfl rfl)
theorem dX0_many_12 : decode cX0_many 12 = .ok (.iadd, 1) := dk_96 (dk_at dksX0_many_0 12 rfl rfl)
theorem dX0_many_13 : decode cX0_many 13 = .ok (.istore_n 1, 1) := dk_60 (dk_at dksX0_many_0 13 rfl rfl)
theorem dX0_many_14 : decode cX0_many 14 = .ok (.iload_n 2, 1) := dk_28 (dk_at dksX0_many_0 14 rfl rfl)
theorem dX0_many_15 : decode cX0_many 15 = .ok (.iconst 1, 1) := dk_4 (dk_at dksX0_many_0 15 rfl rfl)
theorem dX0_many_16 : decode cX0_many 16 = .ok (.iushr, 1) := dk_124 (dk_at dksX0_many_0 16 rfl rfl)
theorem dX0_many_17 : decode cX0_many 17 = .ok (.istore_n 2, 1) := dk_61 (dk_at dksX0_many_0 17 rfl rfl)
theorem dX0_many_18 : decode cX0_many 18 = .ok (.goto (-14), 3) := dk_167 255 242 (dk_at dksX0_many_0 18 rfl rfl)
theorem dX0_many_21 : decode cX0_many 21 = .ok (.iload_n 1, 1) := dk_27 (dk_at dksX0_many_0 21 rfl rfl)
theorem dX0_many_22 : decode cX0_many 22 = .ok (.ireturn, 1) := dk_172 (dk_at dksX0_many_0 22 rfl rfl)
def dkwX0_unlike_1 : List UInt8 := [184, 0, 89, 159, 0, 10, 4, 21, 4, 120, 167, 0, 4, 3, 128, 62, 132, 4, 1, 167, 255, 220, 29, 172]
abbrev dktX0_unlike_1 : List UInt8 := dkwX0_unlike_1 ++ []
def dkwX0_unlike_0 : List UInt8 := [3, 62, 3, 54, 4, 21, 4, 16, 12, 162, 0, 35, 29, 43, 21, 4, 184, 0, 89, 44, 21, 4]
abbrev dktX0_unlike_0 : List UInt8 := dkwX0_unlike_0 ++ dktX0_unlike_1
theorem dksX0_unlike_0 : cX0_unlike.data.toList.drop 0 = dktX0_unlike_0 := by decide +kernel
theorem dksX0_unlike_1 : cX0_unlike.data.toList.drop 22 = dktX0_unlike_1 := dk_seg dksX0_unlike_0 22 rfl rfl
theorem dX0_unlike_0 : decode cX0_unlike 0 = .ok (.iconst 0, 1) := dk_3 (dk_at dksX0_unlike_0 0 rfl rfl)
theorem dX0_unlike_1 : decode cX0_unlike 1 = .ok (.istore_n 3, 1) := dk_62 (dk_at dksX0_unlike_0 1 rfl rfl)
theorem dX0_unlike_2 : decode cX0_unlike 2 = .ok (.iconst 0, 1) := dk_3 (dk_at dksX0_unlike_0 2 rfl rfl)
theorem dX0_unlike_3 : decode cX0_unlike 3 = .ok (.istore 4, 2) := dk_54 4 (dk_at dksX0_unlike_0 3 rfl rfl)
theorem dX0_unlike_5 : decode cX0_unlike 5 = .ok (.iload 4, 2) := dk_21 4 (dk_at dksX0_unlike_0 5 rfl rfl)
theorem dX0_unlike_7 : decode cX0_unlike 7 = .ok (.bipush 12, 2) := dk_16 12 (dk_at dksX0_unlike_0 7 rfl rfl)
theorem dX0_unlike_9 : decode cX0_unlike 9 = .ok (.if_icmp .ge 35, 3) := dk_162 0 35 (dk_at dksX0_unlike_0 9 rfl rfl)
theorem dX0_unlike_12 : decode cX0_unlike 12 = .ok (.iload_n 3, 1) := dk_29 (dk_at dksX0_unlike_0 12 rfl rfl)
theorem dX0_unlike_13 : decode cX0_unlike 13 = .ok (.aload_n 1, 1) := dk_43 (dk_at dksX0_unlike_0 13 rfl rfl)
theorem dX0_unlike_14 : decode cX0_unlike 14 = .ok (.iload 4, 2) := dk_21 4 (dk_at dksX0_unlike_0 14 rfl rfl)
theorem dX0_unlike_16 : decode cX0_unlike 16 = .ok (.invokestatic 89, 3) := dk_184 0 89 (dk_at dksX0_unlike_0 16 rfl rfl)
theorem dX0_unlike_19 : decode cX0_unlike 19 = .ok (.aload_n 2, 1) := dk_44 (dk_at dksX0_unlike_0 19 rfl rfl)
theorem dX0_unlike_20 : decode cX0_unlike 20 = .ok (.iload 4, 2) := dk_21 4 (dk_at dksX0_unlike_0 20 rfl rfl)
theorem dX0_unlike_22 : decode cX0_unlike 22 = .ok (.invokestatic 89, 3) := dk_184 0 89 (dk_at dksX0_unlike_1 0 rfl rfl)
theorem dX0_unlike_25 : decode cX0_unlike 25 = .ok (.if_icmp .eq 10, 3) := dk_159 0 10 (dk_at dksX0_unlike_1 3 rfl rfl)
theorem dX0_unlike_28 : decode cX0_unlike 28 = .ok (.iconst 1, 1) := dk_4 (dk_at dksX0_unlike_1 6 rfl rfl)
theorem dX0_unlike_29 : decode cX0_unlike 29 = .ok (.iload 4, 2) := dk_21 4 (dk_at dksX0_unlike_1 7 rfl rfl)
theorem dX0_unlike_31 : decode cX0_unlike 31 = .ok (.ishl, 1) := dk_120 (dk_at dksX0_unlike_1 9 rfl rfl)
theorem dX0_unlike_32 : decode cX0_unlike 32 = .ok (.goto 4, 3) := dk_167 0 4 (dk_at dksX0_unlike_1 10 rfl rfl)
theorem dX0_unlike_35 : decode cX0_unlike 35 = .ok (.iconst 0, 1) := dk_3 (dk_at dksX0_unlike_1 13 rfl rfl)
theorem dX0_unlike_36 : decode cX0_unlike 36 = .ok (.ior, 1) := dk_128 (dk_at dksX0_unlike_1 14 rfl rfl)
theorem dX0_unlike_37 : decode cX0_unlike 37 = .ok (.istore_n 3, 1) := dk_62 (dk_at dksX0_unlike_1 15 rfl rfl)
theorem dX0_unlike_38 : decode cX0_unlike 38 = .ok (.iinc 4 1, 3) := dk_132 4 1 (dk_at dksX0_unlike_1 16 rfl rfl)
theorem dX0_unlike_41 : decode cX0_unlike 41 = .ok (.goto (-36), 3) := dk_167 255 220 (dk_at dksX0_unlike_1 19 rfl rfl)
theorem dX0_unlike_44 : decode cX0_unlike 44 = .ok (.iload_n 3, 1) := dk_29 (dk_at dksX0_unlike_1 22 rfl rfl)
theorem dX0_unlike_45 : decode cX0_unlike 45 = .ok (.ireturn, 1) := dk_172 (dk_at dksX0_unlike_1 23 rfl rfl)
def dkwX0_loses_1 : List UInt8 := [17, 252, 22, 172]
abbrev dktX0_loses_1 : List UInt8 := dkwX0_loses_1 ++ []
def dkwX0_loses_0 : List UInt8 := [27, 3, 16, 12, 184, 0, 5, 153, 0, 17, 42, 3, 182, 1, 16, 42, 27, 182, 1, 16, 100, 167, 0, 6]
abbrev dktX0_loses_0 : List UInt8 := dkwX0_loses_0 ++ dktX0_loses_1
theorem dksX0_loses_0 : cX0_loses.data.toList.drop 0 = dktX0_loses_0 := by decide +kernel
theorem dksX0_loses_1 : cX0_loses.data.toList.drop 24 = dktX0_loses_1 := dk_seg dksX0_loses_0 24 rfl rfl
theorem dX0_loses_0 : decode cX0_loses 0 = .ok (.iload_n 1, 1) := dk_27 (dk_at dksX0_loses_0 0 rfl rfl)
theorem dX0_loses_1 : decode cX0_loses 1 = .ok (.iconst 0, 1) := dk_3 (dk_at dksX0_loses_0 1 rfl rfl)
theorem dX0_loses_2 : decode cX0_loses 2 = .ok (.bipush 12, 2) := dk_16 12 (dk_at dksX0_loses_0 2 rfl rfl)
theorem dX0_loses_4 : decode cX0_loses 4 = .ok (.invokestatic 5, 3) := dk_184 0 5 (dk_at dksX0_loses_0 4 rfl rfl)
theorem dX0_loses_7 : decode cX0_loses 7 = .ok (.ifCond .eq 17, 3) := dk_153 0 17 (dk_at dksX0_loses_0 7 rfl rfl)
theorem dX0_loses_10 : decode cX0_loses 10 = .ok (.aload_n 0, 1) := dk_42 (dk_at dksX0_loses_0 10 rfl rfl)
theorem dX0_loses_11 : decode cX0_loses 11 = .ok (.iconst 0, 1) := dk_3 (dk_at dksX0_loses_0 11 rfl rfl)
theorem dX0_loses_12 : decode cX0_loses 12 = .ok (.invokevirtual 272, 3) := dk_182 1 16 (dk_at dksX0_loses_0 12 rfl rfl)
theorem dX0_loses_15 : decode cX0_loses 15 = .ok (.aload_n 0, 1) := dk_42 (dk_at dksX0_loses_0 15 rfl rfl)
theorem dX0_loses_16 : decode cX0_loses 16 = .ok (.iload_n 1, 1) := dk_27 (dk_at dksX0_loses_0 16 rfl rfl)
theorem dX0_loses_17 : decode cX0_loses 17 = .ok (.invokevirtual 272, 3) := dk_182 1 16 (dk_at dksX0_loses_0 17 rfl rfl)
theorem dX0_loses_20 : decode cX0_loses 20 = .ok (.isub, 1) := dk_100 (dk_at dksX0_loses_0 20 rfl rfl)
theorem dX0_loses_21 : decode cX0_loses 21 = .ok (.goto 6, 3) := dk_167 0 6 (dk_at dksX0_loses_0 21 rfl rfl)
theorem dX0_loses_24 : decode cX0_loses 24 = .ok (.sipush (-1002), 3) := dk_17 252 22 (dk_at dksX0_loses_1 0 rfl rfl)
theorem dX0_loses_27 : decode cX0_loses 27 = .ok (.ireturn, 1) := dk_172 (dk_at dksX0_loses_1 3 rfl rfl)
def dkwX0_interestBy_0 : List UInt8 := [42, 180, 0, 138, 61, 42, 27, 181, 0, 138, 42, 16, 39, 182, 0, 210, 62, 42, 28, 181, 0, 138, 29, 172]
abbrev dktX0_interestBy_0 : List UInt8 := dkwX0_interestBy_0 ++ []
theorem dksX0_interestBy_0 : cX0_interestBy.data.toList.drop 0 = dktX0_interestBy_0 := by decide +kernel
theorem dX0_interestBy_0 : decode cX0_interestBy 0 = .ok (.aload_n 0, 1) := dk_42 (dk_at dksX0_interestBy_0 0 rfl rfl)
theorem dX0_interestBy_1 : decode cX0_interestBy 1 = .ok (.getfield 138, 3) := dk_180 0 138 (dk_at dksX0_interestBy_0 1 rfl rfl)
theorem dX0_interestBy_4 : decode cX0_interestBy 4 = .ok (.istore_n 2, 1) := dk_61 (dk_at dksX0_interestBy_0 4 rfl rfl)
theorem dX0_interestBy_5 : decode cX0_interestBy 5 = .ok (.aload_n 0, 1) := dk_42 (dk_at dksX0_interestBy_0 5 rfl rfl)
theorem dX0_interestBy_6 : decode cX0_interestBy 6 = .ok (.iload_n 1, 1) := dk_27 (dk_at dksX0_interestBy_0 6 rfl rfl)
theorem dX0_interestBy_7 : decode cX0_interestBy 7 = .ok (.putfield 138, 3) := dk_181 0 138 (dk_at dksX0_interestBy_0 7 rfl rfl)
theorem dX0_interestBy_10 : decode cX0_interestBy 10 = .ok (.aload_n 0, 1) := dk_42 (dk_at dksX0_interestBy_0 10 rfl rfl)
theorem dX0_interestBy_11 : decode cX0_interestBy 11 = .ok (.bipush 39, 2) := dk_16 39 (dk_at dksX0_interestBy_0 11 rfl rfl)
theorem dX0_interestBy_13 : decode cX0_interestBy 13 = .ok (.invokevirtual 210, 3) := dk_182 0 210 (dk_at dksX0_interestBy_0 13 rfl rfl)
theorem dX0_interestBy_16 : decode cX0_interestBy 16 = .ok (.istore_n 3, 1) := dk_62 (dk_at dksX0_interestBy_0 16 rfl rfl)
theorem dX0_interestBy_17 : decode cX0_interestBy 17 = .ok (.aload_n 0, 1) := dk_42 (dk_at dksX0_interestBy_0 17 rfl rfl)
theorem dX0_interestBy_18 : decode cX0_interestBy 18 = .ok (.iload_n 2, 1) := dk_28 (dk_at dksX0_interestBy_0 18 rfl rfl)
theorem dX0_interestBy_19 : decode cX0_interestBy 19 = .ok (.putfield 138, 3) := dk_181 0 138 (dk_at dksX0_interestBy_0 19 rfl rfl)
theorem dX0_interestBy_22 : decode cX0_interestBy 22 = .ok (.iload_n 3, 1) := dk_29 (dk_at dksX0_interestBy_0 22 rfl rfl)
theorem dX0_interestBy_23 : decode cX0_interestBy 23 = .ok (.ireturn, 1) := dk_172 (dk_at dksX0_interestBy_0 23 rfl rfl)
def dkwX0_best_0 : List UInt8 := [27, 3, 17, 0, 240, 184, 0, 5, 153, 0, 11, 42, 27, 182, 1, 19, 167, 0, 5, 16, 254, 172]
abbrev dktX0_best_0 : List UInt8 := dkwX0_best_0 ++ []
theorem dksX0_best_0 : cX0_best.data.toList.drop 0 = dktX0_best_0 := by decide +kernel
theorem dX0_best_0 : decode cX0_best 0 = .ok (.iload_n 1, 1) := dk_27 (dk_at dksX0_best_0 0 rfl rfl)
theorem dX0_best_1 : decode cX0_best 1 = .ok (.iconst 0, 1) := dk_3 (dk_at dksX0_best_0 1 rfl rfl)
theorem dX0_best_2 : decode cX0_best 2 = .ok (.sipush 240, 3) := dk_17 0 240 (dk_at dksX0_best_0 2 rfl rfl)
theorem dX0_best_5 : decode cX0_best 5 = .ok (.invokestatic 5, 3) := dk_184 0 5 (dk_at dksX0_best_0 5 rfl rfl)
theorem dX0_best_8 : decode cX0_best 8 = .ok (.ifCond .eq 11, 3) := dk_153 0 11 (dk_at dksX0_best_0 8 rfl rfl)
theorem dX0_best_11 : decode cX0_best 11 = .ok (.aload_n 0, 1) := dk_42 (dk_at dksX0_best_0 11 rfl rfl)
theorem dX0_best_12 : decode cX0_best 12 = .ok (.iload_n 1, 1) := dk_27 (dk_at dksX0_best_0 12 rfl rfl)
theorem dX0_best_13 : decode cX0_best 13 = .ok (.invokevirtual 275, 3) := dk_182 1 19 (dk_at dksX0_best_0 13 rfl rfl)
theorem dX0_best_16 : decode cX0_best 16 = .ok (.goto 5, 3) := dk_167 0 5 (dk_at dksX0_best_0 16 rfl rfl)
theorem dX0_best_19 : decode cX0_best 19 = .ok (.bipush (-2), 2) := dk_16 254 (dk_at dksX0_best_0 19 rfl rfl)
theorem dX0_best_21 : decode cX0_best 21 = .ok (.ireturn, 1) := dk_172 (dk_at dksX0_best_0 21 rfl rfl)
def dkwX0_bestOf_1 : List UInt8 := [155, 0, 7, 28, 167, 0, 4, 2, 172]
abbrev dktX0_bestOf_1 : List UInt8 := dkwX0_bestOf_1 ++ []
def dkwX0_bestOf_0 : List UInt8 := [16, 12, 61, 28, 155, 0, 18, 42, 28, 182, 1, 16, 27, 162, 0, 9, 132, 2, 255, 167, 255, 240, 28]
abbrev dktX0_bestOf_0 : List UInt8 := dkwX0_bestOf_0 ++ dktX0_bestOf_1
theorem dksX0_bestOf_0 : cX0_bestOf.data.toList.drop 0 = dktX0_bestOf_0 := by decide +kernel
theorem dksX0_bestOf_1 : cX0_bestOf.data.toList.drop 23 = dktX0_bestOf_1 := dk_seg dksX0_bestOf_0 23 rfl rfl
theorem dX0_bestOf_0 : decode cX0_bestOf 0 = .ok (.bipush 12, 2) := dk_16 12 (dk_at dksX0_bestOf_0 0 rfl rfl)
theorem dX0_bestOf_2 : decode cX0_bestOf 2 = .ok (.istore_n 2, 1) := dk_61 (dk_at dksX0_bestOf_0 2 rfl rfl)
theorem dX0_bestOf_3 : decode cX0_bestOf 3 = .ok (.iload_n 2, 1) := dk_28 (dk_at dksX0_bestOf_0 3 rfl rfl)
theorem dX0_bestOf_4 : decode cX0_bestOf 4 = .ok (.ifCond .lt 18, 3) := dk_155 0 18 (dk_at dksX0_bestOf_0 4 rfl rfl)
theorem dX0_bestOf_7 : decode cX0_bestOf 7 = .ok (.aload_n 0, 1) := dk_42 (dk_at dksX0_bestOf_0 7 rfl rfl)
theorem dX0_bestOf_8 : decode cX0_bestOf 8 = .ok (.iload_n 2, 1) := dk_28 (dk_at dksX0_bestOf_0 8 rfl rfl)
theorem dX0_bestOf_9 : decode cX0_bestOf 9 = .ok (.invokevirtual 272, 3) := dk_182 1 16 (dk_at dksX0_bestOf_0 9 rfl rfl)
theorem dX0_bestOf_12 : decode cX0_bestOf 12 = .ok (.iload_n 1, 1) := dk_27 (dk_at dksX0_bestOf_0 12 rfl rfl)
theorem dX0_bestOf_13 : decode cX0_bestOf 13 = .ok (.if_icmp .ge 9, 3) := dk_162 0 9 (dk_at dksX0_bestOf_0 13 rfl rfl)
theorem dX0_bestOf_16 : decode cX0_bestOf 16 = .ok (.iinc 2 (-1), 3) := dk_132 2 255 (dk_at dksX0_bestOf_0 16 rfl rfl)
theorem dX0_bestOf_19 : decode cX0_bestOf 19 = .ok (.goto (-16), 3) := dk_167 255 240 (dk_at dksX0_bestOf_0 19 rfl rfl)
theorem dX0_bestOf_22 : decode cX0_bestOf 22 = .ok (.iload_n 2, 1) := dk_28 (dk_at dksX0_bestOf_0 22 rfl rfl)
theorem dX0_bestOf_23 : decode cX0_bestOf 23 = .ok (.ifCond .lt 7, 3) := dk_155 0 7 (dk_at dksX0_bestOf_1 0 rfl rfl)
theorem dX0_bestOf_26 : decode cX0_bestOf 26 = .ok (.iload_n 2, 1) := dk_28 (dk_at dksX0_bestOf_1 3 rfl rfl)
theorem dX0_bestOf_27 : decode cX0_bestOf 27 = .ok (.goto 4, 3) := dk_167 0 4 (dk_at dksX0_bestOf_1 4 rfl rfl)
theorem dX0_bestOf_30 : decode cX0_bestOf 30 = .ok (.iconst (-1), 1) := dk_2 (dk_at dksX0_bestOf_1 7 rfl rfl)
theorem dX0_bestOf_31 : decode cX0_bestOf 31 = .ok (.ireturn, 1) := dk_172 (dk_at dksX0_bestOf_1 8 rfl rfl)
def dkwX0_hums_3 : List UInt8 := [27, 28, 29, 21, 4, 21, 5, 21, 6, 182, 1, 30, 167, 0, 8, 16, 254, 184, 1, 34, 173]
abbrev dktX0_hums_3 : List UInt8 := dkwX0_hums_3 ++ []
def dkwX0_hums_2 : List UInt8 := [153, 0, 7, 4, 167, 0, 4, 3, 54, 7, 21, 7, 153, 0, 27, 21, 6, 184, 0, 9, 153, 0, 19, 42]
abbrev dktX0_hums_2 : List UInt8 := dkwX0_hums_2 ++ dktX0_hums_3
def dkwX0_hums_1 : List UInt8 := [153, 0, 29, 21, 4, 4, 16, 9, 184, 0, 5, 153, 0, 18, 21, 5, 4, 16, 40, 184, 0, 5]
abbrev dktX0_hums_1 : List UInt8 := dkwX0_hums_1 ++ dktX0_hums_2
def dkwX0_hums_0 : List UInt8 := [27, 3, 16, 16, 184, 0, 5, 153, 0, 45, 42, 28, 182, 0, 86, 153, 0, 37, 42, 29, 182, 0, 96]
abbrev dktX0_hums_0 : List UInt8 := dkwX0_hums_0 ++ dktX0_hums_1
theorem dksX0_hums_0 : cX0_hums.data.toList.drop 0 = dktX0_hums_0 := by decide +kernel
theorem dksX0_hums_1 : cX0_hums.data.toList.drop 23 = dktX0_hums_1 := dk_seg dksX0_hums_0 23 rfl rfl
theorem dksX0_hums_2 : cX0_hums.data.toList.drop 45 = dktX0_hums_2 := dk_seg dksX0_hums_1 22 rfl rfl
theorem dksX0_hums_3 : cX0_hums.data.toList.drop 69 = dktX0_hums_3 := dk_seg dksX0_hums_2 24 rfl rfl
theorem dX0_hums_0 : decode cX0_hums 0 = .ok (.iload_n 1, 1) := dk_27 (dk_at dksX0_hums_0 0 rfl rfl)
theorem dX0_hums_1 : decode cX0_hums 1 = .ok (.iconst 0, 1) := dk_3 (dk_at dksX0_hums_0 1 rfl rfl)
theorem dX0_hums_2 : decode cX0_hums 2 = .ok (.bipush 16, 2) := dk_16 16 (dk_at dksX0_hums_0 2 rfl rfl)
theorem dX0_hums_4 : decode cX0_hums 4 = .ok (.invokestatic 5, 3) := dk_184 0 5 (dk_at dksX0_hums_0 4 rfl rfl)
theorem dX0_hums_7 : decode cX0_hums 7 = .ok (.ifCond .eq 45, 3) := dk_153 0 45 (dk_at dksX0_hums_0 7 rfl rfl)
theorem dX0_hums_10 : decode cX0_hums 10 = .ok (.aload_n 0, 1) := dk_42 (dk_at dksX0_hums_0 10 rfl rfl)
theorem dX0_hums_11 : decode cX0_hums 11 = .ok (.iload_n 2, 1) := dk_28 (dk_at dksX0_hums_0 11 rfl rfl)
theorem dX0_hums_12 : decode cX0_hums 12 = .ok (.invokevirtual 86, 3) := dk_182 0 86 (dk_at dksX0_hums_0 12 rfl rfl)
theorem dX0_hums_15 : decode cX0_hums 15 = .ok (.ifCond .eq 37, 3) := dk_153 0 37 (dk_at dksX0_hums_0 15 rfl rfl)
theorem dX0_hums_18 : decode cX0_hums 18 = .ok (.aload_n 0, 1) := dk_42 (dk_at dksX0_hums_0 18 rfl rfl)
theorem dX0_hums_19 : decode cX0_hums 19 = .ok (.iload_n 3, 1) := dk_29 (dk_at dksX0_hums_0 19 rfl rfl)
theorem dX0_hums_20 : decode cX0_hums 20 = .ok (.invokevirtual 96, 3) := dk_182 0 96 (dk_at dksX0_hums_0 20 rfl rfl)
theorem dX0_hums_23 : decode cX0_hums 23 = .ok (.ifCond .eq 29, 3) := dk_153 0 29 (dk_at dksX0_hums_1 0 rfl rfl)
theorem dX0_hums_26 : decode cX0_hums 26 = .ok (.iload 4, 2) := dk_21 4 (dk_at dksX0_hums_1 3 rfl rfl)
theorem dX0_hums_28 : decode cX0_hums 28 = .ok (.iconst 1, 1) := dk_4 (dk_at dksX0_hums_1 5 rfl rfl)
theorem dX0_hums_29 : decode cX0_hums 29 = .ok (.bipush 9, 2) := dk_16 9 (dk_at dksX0_hums_1 6 rfl rfl)
theorem dX0_hums_31 : decode cX0_hums 31 = .ok (.invokestatic 5, 3) := dk_184 0 5 (dk_at dksX0_hums_1 8 rfl rfl)
theorem dX0_hums_34 : decode cX0_hums 34 = .ok (.ifCond .eq 18, 3) := dk_153 0 18 (dk_at dksX0_hums_1 11 rfl rfl)
theorem dX0_hums_37 : decode cX0_hums 37 = .ok (.iload 5, 2) := dk_21 5 (dk_at dksX0_hums_1 14 rfl rfl)
theorem dX0_hums_39 : decode cX0_hums 39 = .ok (.iconst 1, 1) := dk_4 (dk_at dksX0_hums_1 16 rfl rfl)
theorem dX0_hums_40 : decode cX0_hums 40 = .ok (.bipush 40, 2) := dk_16 40 (dk_at dksX0_hums_1 17 rfl rfl)
theorem dX0_hums_42 : decode cX0_hums 42 = .ok (.invokestatic 5, 3) := dk_184 0 5 (dk_at dksX0_hums_1 19 rfl rfl)
theorem dX0_hums_45 : decode cX0_hums 45 = .ok (.ifCond .eq 7, 3) := dk_153 0 7 (dk_at dksX0_hums_2 0 rfl rfl)
theorem dX0_hums_48 : decode cX0_hums 48 = .ok (.iconst 1, 1) := dk_4 (dk_at dksX0_hums_2 3 rfl rfl)
theorem dX0_hums_49 : decode cX0_hums 49 = .ok (.goto 4, 3) := dk_167 0 4 (dk_at dksX0_hums_2 4 rfl rfl)
theorem dX0_hums_52 : decode cX0_hums 52 = .ok (.iconst 0, 1) := dk_3 (dk_at dksX0_hums_2 7 rfl rfl)
theorem dX0_hums_53 : decode cX0_hums 53 = .ok (.istore 7, 2) := dk_54 7 (dk_at dksX0_hums_2 8 rfl rfl)
theorem dX0_hums_55 : decode cX0_hums 55 = .ok (.iload 7, 2) := dk_21 7 (dk_at dksX0_hums_2 10 rfl rfl)
theorem dX0_hums_57 : decode cX0_hums 57 = .ok (.ifCond .eq 27, 3) := dk_153 0 27 (dk_at dksX0_hums_2 12 rfl rfl)
theorem dX0_hums_60 : decode cX0_hums 60 = .ok (.iload 6, 2) := dk_21 6 (dk_at dksX0_hums_2 15 rfl rfl)
theorem dX0_hums_62 : decode cX0_hums 62 = .ok (.invokestatic 9, 3) := dk_184 0 9 (dk_at dksX0_hums_2 17 rfl rfl)
theorem dX0_hums_65 : decode cX0_hums 65 = .ok (.ifCond .eq 19, 3) := dk_153 0 19 (dk_at dksX0_hums_2 20 rfl rfl)
theorem dX0_hums_68 : decode cX0_hums 68 = .ok (.aload_n 0, 1) := dk_42 (dk_at dksX0_hums_2 23 rfl rfl)
theorem dX0_hums_69 : decode cX0_hums 69 = .ok (.iload_n 1, 1) := dk_27 (dk_at dksX0_hums_3 0 rfl rfl)
theorem dX0_hums_70 : decode cX0_hums 70 = .ok (.iload_n 2, 1) := dk_28 (dk_at dksX0_hums_3 1 rfl rfl)
theorem dX0_hums_71 : decode cX0_hums 71 = .ok (.iload_n 3, 1) := dk_29 (dk_at dksX0_hums_3 2 rfl rfl)
theorem dX0_hums_72 : decode cX0_hums 72 = .ok (.iload 4, 2) := dk_21 4 (dk_at dksX0_hums_3 3 rfl rfl)
theorem dX0_hums_74 : decode cX0_hums 74 = .ok (.iload 5, 2) := dk_21 5 (dk_at dksX0_hums_3 5 rfl rfl)
theorem dX0_hums_76 : decode cX0_hums 76 = .ok (.iload 6, 2) := dk_21 6 (dk_at dksX0_hums_3 7 rfl rfl)
theorem dX0_hums_78 : decode cX0_hums 78 = .ok (.invokevirtual 286, 3) := dk_182 1 30 (dk_at dksX0_hums_3 9 rfl rfl)
theorem dX0_hums_81 : decode cX0_hums 81 = .ok (.goto 8, 3) := dk_167 0 8 (dk_at dksX0_hums_3 12 rfl rfl)
theorem dX0_hums_84 : decode cX0_hums 84 = .ok (.bipush (-2), 2) := dk_16 254 (dk_at dksX0_hums_3 15 rfl rfl)
theorem dX0_hums_86 : decode cX0_hums 86 = .ok (.invokestatic 290, 3) := dk_184 1 34 (dk_at dksX0_hums_3 17 rfl rfl)
theorem dX0_hums_89 : decode cX0_hums 89 = .ok (.lreturn, 1) := dk_173 (dk_at dksX0_hums_3 20 rfl rfl)
def dkwX0_humsOf_3 : List UInt8 := [132, 9, 1, 167, 255, 203, 22, 7, 10, 7, 21, 4, 104, 121, 21, 6, 184, 1, 26, 173]
abbrev dktX0_humsOf_3 : List UInt8 := dkwX0_humsOf_3 ++ []
def dkwX0_humsOf_2 : List UInt8 := [184, 1, 22, 167, 0, 4, 9, 97, 55, 7, 42, 42, 180, 0, 49, 29, 50, 42, 180, 0, 216, 182, 0, 184]
abbrev dktX0_humsOf_2 : List UInt8 := dkwX0_humsOf_2 ++ dktX0_humsOf_3
def dkwX0_humsOf_1 : List UInt8 := [163, 0, 52, 22, 7, 42, 180, 0, 216, 180, 0, 37, 21, 5, 161, 0, 14, 21, 4, 21, 9, 27]
abbrev dktX0_humsOf_1 : List UInt8 := dkwX0_humsOf_1 ++ dktX0_humsOf_2
def dkwX0_humsOf_0 : List UInt8 := [9, 55, 7, 42, 180, 0, 216, 42, 180, 0, 33, 28, 50, 182, 0, 144, 3, 54, 9, 21, 9, 21, 4]
abbrev dktX0_humsOf_0 : List UInt8 := dkwX0_humsOf_0 ++ dktX0_humsOf_1
theorem dksX0_humsOf_0 : cX0_humsOf.data.toList.drop 0 = dktX0_humsOf_0 := by decide +kernel
theorem dksX0_humsOf_1 : cX0_humsOf.data.toList.drop 23 = dktX0_humsOf_1 := dk_seg dksX0_humsOf_0 23 rfl rfl
theorem dksX0_humsOf_2 : cX0_humsOf.data.toList.drop 45 = dktX0_humsOf_2 := dk_seg dksX0_humsOf_1 22 rfl rfl
theorem dksX0_humsOf_3 : cX0_humsOf.data.toList.drop 69 = dktX0_humsOf_3 := dk_seg dksX0_humsOf_2 24 rfl rfl
theorem dX0_humsOf_0 : decode cX0_humsOf 0 = .ok (.lconst 0, 1) := dk_9 (dk_at dksX0_humsOf_0 0 rfl rfl)
theorem dX0_humsOf_1 : decode cX0_humsOf 1 = .ok (.lstore 7, 2) := dk_55 7 (dk_at dksX0_humsOf_0 1 rfl rfl)
theorem dX0_humsOf_3 : decode cX0_humsOf 3 = .ok (.aload_n 0, 1) := dk_42 (dk_at dksX0_humsOf_0 3 rfl rfl)
theorem dX0_humsOf_4 : decode cX0_humsOf 4 = .ok (.getfield 216, 3) := dk_180 0 216 (dk_at dksX0_humsOf_0 4 rfl rfl)
theorem dX0_humsOf_7 : decode cX0_humsOf 7 = .ok (.aload_n 0, 1) := dk_42 (dk_at dksX0_humsOf_0 7 rfl rfl)
theorem dX0_humsOf_8 : decode cX0_humsOf 8 = .ok (.getfield 33, 3) := dk_180 0 33 (dk_at dksX0_humsOf_0 8 rfl rfl)
theorem dX0_humsOf_11 : decode cX0_humsOf 11 = .ok (.iload_n 2, 1) := dk_28 (dk_at dksX0_humsOf_0 11 rfl rfl)
theorem dX0_humsOf_12 : decode cX0_humsOf 12 = .ok (.aaload, 1) := dk_50 (dk_at dksX0_humsOf_0 12 rfl rfl)
theorem dX0_humsOf_13 : decode cX0_humsOf 13 = .ok (.invokevirtual 144, 3) := dk_182 0 144 (dk_at dksX0_humsOf_0 13 rfl rfl)
theorem dX0_humsOf_16 : decode cX0_humsOf 16 = .ok (.iconst 0, 1) := dk_3 (dk_at dksX0_humsOf_0 16 rfl rfl)
theorem dX0_humsOf_17 : decode cX0_humsOf 17 = .ok (.istore 9, 2) := dk_54 9 (dk_at dksX0_humsOf_0 17 rfl rfl)
theorem dX0_humsOf_19 : decode cX0_humsOf 19 = .ok (.iload 9, 2) := dk_21 9 (dk_at dksX0_humsOf_0 19 rfl rfl)
theorem dX0_humsOf_21 : decode cX0_humsOf 21 = .ok (.iload 4, 2) := dk_21 4 (dk_at dksX0_humsOf_0 21 rfl rfl)
theorem dX0_humsOf_23 : decode cX0_humsOf 23 = .ok (.if_icmp .gt 52, 3) := dk_163 0 52 (dk_at dksX0_humsOf_1 0 rfl rfl)
theorem dX0_humsOf_26 : decode cX0_humsOf 26 = .ok (.lload 7, 2) := dk_22 7 (dk_at dksX0_humsOf_1 3 rfl rfl)
theorem dX0_humsOf_28 : decode cX0_humsOf 28 = .ok (.aload_n 0, 1) := dk_42 (dk_at dksX0_humsOf_1 5 rfl rfl)
theorem dX0_humsOf_29 : decode cX0_humsOf 29 = .ok (.getfield 216, 3) := dk_180 0 216 (dk_at dksX0_humsOf_1 6 rfl rfl)
theorem dX0_humsOf_32 : decode cX0_humsOf 32 = .ok (.getfield 37, 3) := dk_180 0 37 (dk_at dksX0_humsOf_1 9 rfl rfl)
theorem dX0_humsOf_35 : decode cX0_humsOf 35 = .ok (.iload 5, 2) := dk_21 5 (dk_at dksX0_humsOf_1 12 rfl rfl)
theorem dX0_humsOf_37 : decode cX0_humsOf 37 = .ok (.if_icmp .lt 14, 3) := dk_161 0 14 (dk_at dksX0_humsOf_1 14 rfl rfl)
theorem dX0_humsOf_40 : decode cX0_humsOf 40 = .ok (.iload 4, 2) := dk_21 4 (dk_at dksX0_humsOf_1 17 rfl rfl)
theorem dX0_humsOf_42 : decode cX0_humsOf 42 = .ok (.iload 9, 2) := dk_21 9 (dk_at dksX0_humsOf_1 19 rfl rfl)
theorem dX0_humsOf_44 : decode cX0_humsOf 44 = .ok (.iload_n 1, 1) := dk_27 (dk_at dksX0_humsOf_1 21 rfl rfl)
theorem dX0_humsOf_45 : decode cX0_humsOf 45 = .ok (.invokestatic 278, 3) := dk_184 1 22 (dk_at dksX0_humsOf_2 0 rfl rfl)
theorem dX0_humsOf_48 : decode cX0_humsOf 48 = .ok (.goto 4, 3) := dk_167 0 4 (dk_at dksX0_humsOf_2 3 rfl rfl)
theorem dX0_humsOf_51 : decode cX0_humsOf 51 = .ok (.lconst 0, 1) := dk_9 (dk_at dksX0_humsOf_2 6 rfl rfl)
theorem dX0_humsOf_52 : decode cX0_humsOf 52 = .ok (.ladd, 1) := dk_97 (dk_at dksX0_humsOf_2 7 rfl rfl)
theorem dX0_humsOf_53 : decode cX0_humsOf 53 = .ok (.lstore 7, 2) := dk_55 7 (dk_at dksX0_humsOf_2 8 rfl rfl)
theorem dX0_humsOf_55 : decode cX0_humsOf 55 = .ok (.aload_n 0, 1) := dk_42 (dk_at dksX0_humsOf_2 10 rfl rfl)
theorem dX0_humsOf_56 : decode cX0_humsOf 56 = .ok (.aload_n 0, 1) := dk_42 (dk_at dksX0_humsOf_2 11 rfl rfl)
theorem dX0_humsOf_57 : decode cX0_humsOf 57 = .ok (.getfield 49, 3) := dk_180 0 49 (dk_at dksX0_humsOf_2 12 rfl rfl)
theorem dX0_humsOf_60 : decode cX0_humsOf 60 = .ok (.iload_n 3, 1) := dk_29 (dk_at dksX0_humsOf_2 15 rfl rfl)
theorem dX0_humsOf_61 : decode cX0_humsOf 61 = .ok (.aaload, 1) := dk_50 (dk_at dksX0_humsOf_2 16 rfl rfl)
theorem dX0_humsOf_62 : decode cX0_humsOf 62 = .ok (.aload_n 0, 1) := dk_42 (dk_at dksX0_humsOf_2 17 rfl rfl)
theorem dX0_humsOf_63 : decode cX0_humsOf 63 = .ok (.getfield 216, 3) := dk_180 0 216 (dk_at dksX0_humsOf_2 18 rfl rfl)
theorem dX0_humsOf_66 : decode cX0_humsOf 66 = .ok (.invokevirtual 184, 3) := dk_182 0 184 (dk_at dksX0_humsOf_2 21 rfl rfl)
theorem dX0_humsOf_69 : decode cX0_humsOf 69 = .ok (.iinc 9 1, 3) := dk_132 9 1 (dk_at dksX0_humsOf_3 0 rfl rfl)
theorem dX0_humsOf_72 : decode cX0_humsOf 72 = .ok (.goto (-53), 3) := dk_167 255 203 (dk_at dksX0_humsOf_3 3 rfl rfl)
theorem dX0_humsOf_75 : decode cX0_humsOf 75 = .ok (.lload 7, 2) := dk_22 7 (dk_at dksX0_humsOf_3 6 rfl rfl)
theorem dX0_humsOf_77 : decode cX0_humsOf 77 = .ok (.lconst 1, 1) := dk_10 (dk_at dksX0_humsOf_3 8 rfl rfl)
theorem dX0_humsOf_78 : decode cX0_humsOf 78 = .ok (.iconst 4, 1) := dk_7 (dk_at dksX0_humsOf_3 9 rfl rfl)
theorem dX0_humsOf_79 : decode cX0_humsOf 79 = .ok (.iload 4, 2) := dk_21 4 (dk_at dksX0_humsOf_3 10 rfl rfl)
theorem dX0_humsOf_81 : decode cX0_humsOf 81 = .ok (.imul, 1) := dk_104 (dk_at dksX0_humsOf_3 12 rfl rfl)
theorem dX0_humsOf_82 : decode cX0_humsOf 82 = .ok (.lshl, 1) := dk_121 (dk_at dksX0_humsOf_3 13 rfl rfl)
theorem dX0_humsOf_83 : decode cX0_humsOf 83 = .ok (.iload 6, 2) := dk_21 6 (dk_at dksX0_humsOf_3 14 rfl rfl)
theorem dX0_humsOf_85 : decode cX0_humsOf 85 = .ok (.invokestatic 282, 3) := dk_184 1 26 (dk_at dksX0_humsOf_3 16 rfl rfl)
theorem dX0_humsOf_88 : decode cX0_humsOf 88 = .ok (.lreturn, 1) := dk_173 (dk_at dksX0_humsOf_3 19 rfl rfl)
def dkwX0_ways_1 : List UInt8 := [27, 4, 100, 28, 184, 1, 22, 105, 16, 16, 28, 100, 133, 26, 4, 100, 27, 28, 184, 1, 22, 105, 97, 173]
abbrev dktX0_ways_1 : List UInt8 := dkwX0_ways_1 ++ []
def dkwX0_ways_0 : List UInt8 := [27, 155, 0, 8, 27, 26, 164, 0, 5, 9, 173, 26, 154, 0, 7, 10, 167, 0, 31, 28, 133, 26, 4, 100]
abbrev dktX0_ways_0 : List UInt8 := dkwX0_ways_0 ++ dktX0_ways_1
theorem dksX0_ways_0 : cX0_ways.data.toList.drop 0 = dktX0_ways_0 := by decide +kernel
theorem dksX0_ways_1 : cX0_ways.data.toList.drop 24 = dktX0_ways_1 := dk_seg dksX0_ways_0 24 rfl rfl
theorem dX0_ways_0 : decode cX0_ways 0 = .ok (.iload_n 1, 1) := dk_27 (dk_at dksX0_ways_0 0 rfl rfl)
theorem dX0_ways_1 : decode cX0_ways 1 = .ok (.ifCond .lt 8, 3) := dk_155 0 8 (dk_at dksX0_ways_0 1 rfl rfl)
theorem dX0_ways_4 : decode cX0_ways 4 = .ok (.iload_n 1, 1) := dk_27 (dk_at dksX0_ways_0 4 rfl rfl)
theorem dX0_ways_5 : decode cX0_ways 5 = .ok (.iload_n 0, 1) := dk_26 (dk_at dksX0_ways_0 5 rfl rfl)
theorem dX0_ways_6 : decode cX0_ways 6 = .ok (.if_icmp .le 5, 3) := dk_164 0 5 (dk_at dksX0_ways_0 6 rfl rfl)
theorem dX0_ways_9 : decode cX0_ways 9 = .ok (.lconst 0, 1) := dk_9 (dk_at dksX0_ways_0 9 rfl rfl)
theorem dX0_ways_10 : decode cX0_ways 10 = .ok (.lreturn, 1) := dk_173 (dk_at dksX0_ways_0 10 rfl rfl)
theorem dX0_ways_11 : decode cX0_ways 11 = .ok (.iload_n 0, 1) := dk_26 (dk_at dksX0_ways_0 11 rfl rfl)
theorem dX0_ways_12 : decode cX0_ways 12 = .ok (.ifCond .ne 7, 3) := dk_154 0 7 (dk_at dksX0_ways_0 12 rfl rfl)
theorem dX0_ways_15 : decode cX0_ways 15 = .ok (.lconst 1, 1) := dk_10 (dk_at dksX0_ways_0 15 rfl rfl)
theorem dX0_ways_16 : decode cX0_ways 16 = .ok (.goto 31, 3) := dk_167 0 31 (dk_at dksX0_ways_0 16 rfl rfl)
theorem dX0_ways_19 : decode cX0_ways 19 = .ok (.iload_n 2, 1) := dk_28 (dk_at dksX0_ways_0 19 rfl rfl)
theorem dX0_ways_20 : decode cX0_ways 20 = .ok (.i2l, 1) := dk_133 (dk_at dksX0_ways_0 20 rfl rfl)
theorem dX0_ways_21 : decode cX0_ways 21 = .ok (.iload_n 0, 1) := dk_26 (dk_at dksX0_ways_0 21 rfl rfl)
theorem dX0_ways_22 : decode cX0_ways 22 = .ok (.iconst 1, 1) := dk_4 (dk_at dksX0_ways_0 22 rfl rfl)
theorem dX0_ways_23 : decode cX0_ways 23 = .ok (.isub, 1) := dk_100 (dk_at dksX0_ways_0 23 rfl rfl)
theorem dX0_ways_24 : decode cX0_ways 24 = .ok (.iload_n 1, 1) := dk_27 (dk_at dksX0_ways_1 0 rfl rfl)
theorem dX0_ways_25 : decode cX0_ways 25 = .ok (.iconst 1, 1) := dk_4 (dk_at dksX0_ways_1 1 rfl rfl)
theorem dX0_ways_26 : decode cX0_ways 26 = .ok (.isub, 1) := dk_100 (dk_at dksX0_ways_1 2 rfl rfl)
theorem dX0_ways_27 : decode cX0_ways 27 = .ok (.iload_n 2, 1) := dk_28 (dk_at dksX0_ways_1 3 rfl rfl)
theorem dX0_ways_28 : decode cX0_ways 28 = .ok (.invokestatic 278, 3) := dk_184 1 22 (dk_at dksX0_ways_1 4 rfl rfl)
theorem dX0_ways_31 : decode cX0_ways 31 = .ok (.lmul, 1) := dk_105 (dk_at dksX0_ways_1 7 rfl rfl)
theorem dX0_ways_32 : decode cX0_ways 32 = .ok (.bipush 16, 2) := dk_16 16 (dk_at dksX0_ways_1 8 rfl rfl)
theorem dX0_ways_34 : decode cX0_ways 34 = .ok (.iload_n 2, 1) := dk_28 (dk_at dksX0_ways_1 10 rfl rfl)
theorem dX0_ways_35 : decode cX0_ways 35 = .ok (.isub, 1) := dk_100 (dk_at dksX0_ways_1 11 rfl rfl)
theorem dX0_ways_36 : decode cX0_ways 36 = .ok (.i2l, 1) := dk_133 (dk_at dksX0_ways_1 12 rfl rfl)
theorem dX0_ways_37 : decode cX0_ways 37 = .ok (.iload_n 0, 1) := dk_26 (dk_at dksX0_ways_1 13 rfl rfl)
theorem dX0_ways_38 : decode cX0_ways 38 = .ok (.iconst 1, 1) := dk_4 (dk_at dksX0_ways_1 14 rfl rfl)
theorem dX0_ways_39 : decode cX0_ways 39 = .ok (.isub, 1) := dk_100 (dk_at dksX0_ways_1 15 rfl rfl)
theorem dX0_ways_40 : decode cX0_ways 40 = .ok (.iload_n 1, 1) := dk_27 (dk_at dksX0_ways_1 16 rfl rfl)
theorem dX0_ways_41 : decode cX0_ways 41 = .ok (.iload_n 2, 1) := dk_28 (dk_at dksX0_ways_1 17 rfl rfl)
theorem dX0_ways_42 : decode cX0_ways 42 = .ok (.invokestatic 278, 3) := dk_184 1 22 (dk_at dksX0_ways_1 18 rfl rfl)
theorem dX0_ways_45 : decode cX0_ways 45 = .ok (.lmul, 1) := dk_105 (dk_at dksX0_ways_1 21 rfl rfl)
theorem dX0_ways_46 : decode cX0_ways 46 = .ok (.ladd, 1) := dk_97 (dk_at dksX0_ways_1 22 rfl rfl)
theorem dX0_ways_47 : decode cX0_ways 47 = .ok (.lreturn, 1) := dk_173 (dk_at dksX0_ways_1 23 rfl rfl)
def dkwX0_lowest_1 : List UInt8 := [22, 9, 55, 7, 167, 255, 234, 21, 4, 154, 0, 10, 30, 22, 5, 109, 167, 0, 7, 32, 22, 5, 109, 173]
abbrev dktX0_lowest_1 : List UInt8 := dkwX0_lowest_1 ++ []
def dkwX0_lowest_0 : List UInt8 := [30, 55, 5, 32, 55, 7, 22, 7, 9, 148, 153, 0, 21, 22, 5, 22, 7, 113, 55, 9, 22, 7, 55, 5]
abbrev dktX0_lowest_0 : List UInt8 := dkwX0_lowest_0 ++ dktX0_lowest_1
theorem dksX0_lowest_0 : cX0_lowest.data.toList.drop 0 = dktX0_lowest_0 := by decide +kernel
theorem dksX0_lowest_1 : cX0_lowest.data.toList.drop 24 = dktX0_lowest_1 := dk_seg dksX0_lowest_0 24 rfl rfl
theorem dX0_lowest_0 : decode cX0_lowest 0 = .ok (.lload_n 0, 1) := dk_30 (dk_at dksX0_lowest_0 0 rfl rfl)
theorem dX0_lowest_1 : decode cX0_lowest 1 = .ok (.lstore 5, 2) := dk_55 5 (dk_at dksX0_lowest_0 1 rfl rfl)
theorem dX0_lowest_3 : decode cX0_lowest 3 = .ok (.lload_n 2, 1) := dk_32 (dk_at dksX0_lowest_0 3 rfl rfl)
theorem dX0_lowest_4 : decode cX0_lowest 4 = .ok (.lstore 7, 2) := dk_55 7 (dk_at dksX0_lowest_0 4 rfl rfl)
theorem dX0_lowest_6 : decode cX0_lowest 6 = .ok (.lload 7, 2) := dk_22 7 (dk_at dksX0_lowest_0 6 rfl rfl)
theorem dX0_lowest_8 : decode cX0_lowest 8 = .ok (.lconst 0, 1) := dk_9 (dk_at dksX0_lowest_0 8 rfl rfl)
theorem dX0_lowest_9 : decode cX0_lowest 9 = .ok (.lcmp, 1) := dk_148 (dk_at dksX0_lowest_0 9 rfl rfl)
theorem dX0_lowest_10 : decode cX0_lowest 10 = .ok (.ifCond .eq 21, 3) := dk_153 0 21 (dk_at dksX0_lowest_0 10 rfl rfl)
theorem dX0_lowest_13 : decode cX0_lowest 13 = .ok (.lload 5, 2) := dk_22 5 (dk_at dksX0_lowest_0 13 rfl rfl)
theorem dX0_lowest_15 : decode cX0_lowest 15 = .ok (.lload 7, 2) := dk_22 7 (dk_at dksX0_lowest_0 15 rfl rfl)
theorem dX0_lowest_17 : decode cX0_lowest 17 = .ok (.lrem, 1) := dk_113 (dk_at dksX0_lowest_0 17 rfl rfl)
theorem dX0_lowest_18 : decode cX0_lowest 18 = .ok (.lstore 9, 2) := dk_55 9 (dk_at dksX0_lowest_0 18 rfl rfl)
theorem dX0_lowest_20 : decode cX0_lowest 20 = .ok (.lload 7, 2) := dk_22 7 (dk_at dksX0_lowest_0 20 rfl rfl)
theorem dX0_lowest_22 : decode cX0_lowest 22 = .ok (.lstore 5, 2) := dk_55 5 (dk_at dksX0_lowest_0 22 rfl rfl)
theorem dX0_lowest_24 : decode cX0_lowest 24 = .ok (.lload 9, 2) := dk_22 9 (dk_at dksX0_lowest_1 0 rfl rfl)
theorem dX0_lowest_26 : decode cX0_lowest 26 = .ok (.lstore 7, 2) := dk_55 7 (dk_at dksX0_lowest_1 2 rfl rfl)
theorem dX0_lowest_28 : decode cX0_lowest 28 = .ok (.goto (-22), 3) := dk_167 255 234 (dk_at dksX0_lowest_1 4 rfl rfl)
theorem dX0_lowest_31 : decode cX0_lowest 31 = .ok (.iload 4, 2) := dk_21 4 (dk_at dksX0_lowest_1 7 rfl rfl)
theorem dX0_lowest_33 : decode cX0_lowest 33 = .ok (.ifCond .ne 10, 3) := dk_154 0 10 (dk_at dksX0_lowest_1 9 rfl rfl)
theorem dX0_lowest_36 : decode cX0_lowest 36 = .ok (.lload_n 0, 1) := dk_30 (dk_at dksX0_lowest_1 12 rfl rfl)
theorem dX0_lowest_37 : decode cX0_lowest 37 = .ok (.lload 5, 2) := dk_22 5 (dk_at dksX0_lowest_1 13 rfl rfl)
theorem dX0_lowest_39 : decode cX0_lowest 39 = .ok (.ldiv, 1) := dk_109 (dk_at dksX0_lowest_1 15 rfl rfl)
theorem dX0_lowest_40 : decode cX0_lowest 40 = .ok (.goto 7, 3) := dk_167 0 7 (dk_at dksX0_lowest_1 16 rfl rfl)
theorem dX0_lowest_43 : decode cX0_lowest 43 = .ok (.lload_n 2, 1) := dk_32 (dk_at dksX0_lowest_1 19 rfl rfl)
theorem dX0_lowest_44 : decode cX0_lowest 44 = .ok (.lload 5, 2) := dk_22 5 (dk_at dksX0_lowest_1 20 rfl rfl)
theorem dX0_lowest_46 : decode cX0_lowest 46 = .ok (.ldiv, 1) := dk_109 (dk_at dksX0_lowest_1 22 rfl rfl)
theorem dX0_lowest_47 : decode cX0_lowest 47 = .ok (.lreturn, 1) := dk_173 (dk_at dksX0_lowest_1 23 rfl rfl)
def dkwX0_no_0 : List UInt8 := [20, 0, 3, 26, 133, 101, 173]
abbrev dktX0_no_0 : List UInt8 := dkwX0_no_0 ++ []
theorem dksX0_no_0 : cX0_no.data.toList.drop 0 = dktX0_no_0 := by decide +kernel
theorem dX0_no_0 : decode cX0_no 0 = .ok (.ldc2_w 3, 3) := dk_20 0 3 (dk_at dksX0_no_0 0 rfl rfl)
theorem dX0_no_3 : decode cX0_no 3 = .ok (.iload_n 0, 1) := dk_26 (dk_at dksX0_no_0 3 rfl rfl)
theorem dX0_no_4 : decode cX0_no 4 = .ok (.i2l, 1) := dk_133 (dk_at dksX0_no_0 4 rfl rfl)
theorem dX0_no_5 : decode cX0_no 5 = .ok (.lsub, 1) := dk_101 (dk_at dksX0_no_0 5 rfl rfl)
theorem dX0_no_6 : decode cX0_no 6 = .ok (.lreturn, 1) := dk_173 (dk_at dksX0_no_0 6 rfl rfl)
def dkwX0_fair_1 : List UInt8 := [182, 1, 39, 167, 0, 5, 16, 254, 172]
abbrev dktX0_fair_1 : List UInt8 := dkwX0_fair_1 ++ []
def dkwX0_fair_0 : List UInt8 := [28, 4, 16, 40, 184, 0, 5, 153, 0, 21, 42, 29, 182, 0, 86, 153, 0, 13, 42, 27, 28, 29]
abbrev dktX0_fair_0 : List UInt8 := dkwX0_fair_0 ++ dktX0_fair_1
theorem dksX0_fair_0 : cX0_fair.data.toList.drop 0 = dktX0_fair_0 := by decide +kernel
theorem dksX0_fair_1 : cX0_fair.data.toList.drop 22 = dktX0_fair_1 := dk_seg dksX0_fair_0 22 rfl rfl
theorem dX0_fair_0 : decode cX0_fair 0 = .ok (.iload_n 2, 1) := dk_28 (dk_at dksX0_fair_0 0 rfl rfl)
theorem dX0_fair_1 : decode cX0_fair 1 = .ok (.iconst 1, 1) := dk_4 (dk_at dksX0_fair_0 1 rfl rfl)
theorem dX0_fair_2 : decode cX0_fair 2 = .ok (.bipush 40, 2) := dk_16 40 (dk_at dksX0_fair_0 2 rfl rfl)
theorem dX0_fair_4 : decode cX0_fair 4 = .ok (.invokestatic 5, 3) := dk_184 0 5 (dk_at dksX0_fair_0 4 rfl rfl)
theorem dX0_fair_7 : decode cX0_fair 7 = .ok (.ifCond .eq 21, 3) := dk_153 0 21 (dk_at dksX0_fair_0 7 rfl rfl)
theorem dX0_fair_10 : decode cX0_fair 10 = .ok (.aload_n 0, 1) := dk_42 (dk_at dksX0_fair_0 10 rfl rfl)
theorem dX0_fair_11 : decode cX0_fair 11 = .ok (.iload_n 3, 1) := dk_29 (dk_at dksX0_fair_0 11 rfl rfl)
theorem dX0_fair_12 : decode cX0_fair 12 = .ok (.invokevirtual 86, 3) := dk_182 0 86 (dk_at dksX0_fair_0 12 rfl rfl)
theorem dX0_fair_15 : decode cX0_fair 15 = .ok (.ifCond .eq 13, 3) := dk_153 0 13 (dk_at dksX0_fair_0 15 rfl rfl)
theorem dX0_fair_18 : decode cX0_fair 18 = .ok (.aload_n 0, 1) := dk_42 (dk_at dksX0_fair_0 18 rfl rfl)
theorem dX0_fair_19 : decode cX0_fair 19 = .ok (.iload_n 1, 1) := dk_27 (dk_at dksX0_fair_0 19 rfl rfl)
theorem dX0_fair_20 : decode cX0_fair 20 = .ok (.iload_n 2, 1) := dk_28 (dk_at dksX0_fair_0 20 rfl rfl)
theorem dX0_fair_21 : decode cX0_fair 21 = .ok (.iload_n 3, 1) := dk_29 (dk_at dksX0_fair_0 21 rfl rfl)
theorem dX0_fair_22 : decode cX0_fair 22 = .ok (.invokevirtual 295, 3) := dk_182 1 39 (dk_at dksX0_fair_1 0 rfl rfl)
theorem dX0_fair_25 : decode cX0_fair 25 = .ok (.goto 5, 3) := dk_167 0 5 (dk_at dksX0_fair_1 3 rfl rfl)
theorem dX0_fair_28 : decode cX0_fair 28 = .ok (.bipush (-2), 2) := dk_16 254 (dk_at dksX0_fair_1 6 rfl rfl)
theorem dX0_fair_30 : decode cX0_fair 30 = .ok (.ireturn, 1) := dk_172 (dk_at dksX0_fair_1 8 rfl rfl)
def dkwX0_fairOf_4 : List UInt8 := [180, 0, 141, 29, 50, 180, 0, 37, 172]
abbrev dktX0_fairOf_4 : List UInt8 := dkwX0_fairOf_4 ++ []
def dkwX0_fairOf_3 : List UInt8 := [180, 0, 46, 112, 50, 42, 180, 0, 141, 21, 6, 50, 182, 0, 184, 132, 5, 1, 167, 255, 178, 42]
abbrev dktX0_fairOf_3 : List UInt8 := dkwX0_fairOf_3 ++ dktX0_fairOf_4
def dkwX0_fairOf_2 : List UInt8 := [19, 1, 38, 21, 4, 104, 17, 48, 57, 96, 54, 4, 42, 42, 180, 0, 49, 21, 4, 16, 16, 124, 42]
abbrev dktX0_fairOf_2 : List UInt8 := dkwX0_fairOf_2 ++ dktX0_fairOf_3
def dkwX0_fairOf_1 : List UInt8 := [19, 1, 38, 21, 4, 104, 17, 48, 57, 96, 54, 4, 21, 4, 16, 16, 124, 42, 180, 0, 25, 112, 54, 6]
abbrev dktX0_fairOf_1 : List UInt8 := dkwX0_fairOf_1 ++ dktX0_fairOf_2
def dkwX0_fairOf_0 : List UInt8 := [42, 182, 0, 191, 27, 54, 4, 3, 54, 5, 21, 5, 28, 162, 0, 78, 42, 180, 0, 46, 158, 0, 71]
abbrev dktX0_fairOf_0 : List UInt8 := dkwX0_fairOf_0 ++ dktX0_fairOf_1
theorem dksX0_fairOf_0 : cX0_fairOf.data.toList.drop 0 = dktX0_fairOf_0 := by decide +kernel
theorem dksX0_fairOf_1 : cX0_fairOf.data.toList.drop 23 = dktX0_fairOf_1 := dk_seg dksX0_fairOf_0 23 rfl rfl
theorem dksX0_fairOf_2 : cX0_fairOf.data.toList.drop 47 = dktX0_fairOf_2 := dk_seg dksX0_fairOf_1 24 rfl rfl
theorem dksX0_fairOf_3 : cX0_fairOf.data.toList.drop 70 = dktX0_fairOf_3 := dk_seg dksX0_fairOf_2 23 rfl rfl
theorem dksX0_fairOf_4 : cX0_fairOf.data.toList.drop 92 = dktX0_fairOf_4 := dk_seg dksX0_fairOf_3 22 rfl rfl
theorem dX0_fairOf_0 : decode cX0_fairOf 0 = .ok (.aload_n 0, 1) := dk_42 (dk_at dksX0_fairOf_0 0 rfl rfl)
theorem dX0_fairOf_1 : decode cX0_fairOf 1 = .ok (.invokevirtual 191, 3) := dk_182 0 191 (dk_at dksX0_fairOf_0 1 rfl rfl)
theorem dX0_fairOf_4 : decode cX0_fairOf 4 = .ok (.iload_n 1, 1) := dk_27 (dk_at dksX0_fairOf_0 4 rfl rfl)
theorem dX0_fairOf_5 : decode cX0_fairOf 5 = .ok (.istore 4, 2) := dk_54 4 (dk_at dksX0_fairOf_0 5 rfl rfl)
theorem dX0_fairOf_7 : decode cX0_fairOf 7 = .ok (.iconst 0, 1) := dk_3 (dk_at dksX0_fairOf_0 7 rfl rfl)
theorem dX0_fairOf_8 : decode cX0_fairOf 8 = .ok (.istore 5, 2) := dk_54 5 (dk_at dksX0_fairOf_0 8 rfl rfl)
theorem dX0_fairOf_10 : decode cX0_fairOf 10 = .ok (.iload 5, 2) := dk_21 5 (dk_at dksX0_fairOf_0 10 rfl rfl)
theorem dX0_fairOf_12 : decode cX0_fairOf 12 = .ok (.iload_n 2, 1) := dk_28 (dk_at dksX0_fairOf_0 12 rfl rfl)
theorem dX0_fairOf_13 : decode cX0_fairOf 13 = .ok (.if_icmp .ge 78, 3) := dk_162 0 78 (dk_at dksX0_fairOf_0 13 rfl rfl)
theorem dX0_fairOf_16 : decode cX0_fairOf 16 = .ok (.aload_n 0, 1) := dk_42 (dk_at dksX0_fairOf_0 16 rfl rfl)
theorem dX0_fairOf_17 : decode cX0_fairOf 17 = .ok (.getfield 46, 3) := dk_180 0 46 (dk_at dksX0_fairOf_0 17 rfl rfl)
theorem dX0_fairOf_20 : decode cX0_fairOf 20 = .ok (.ifCond .le 71, 3) := dk_158 0 71 (dk_at dksX0_fairOf_0 20 rfl rfl)
theorem dX0_fairOf_23 : decode cX0_fairOf 23 = .ok (.ldc_w 294, 3) := dk_19 1 38 (dk_at dksX0_fairOf_1 0 rfl rfl)
theorem dX0_fairOf_26 : decode cX0_fairOf 26 = .ok (.iload 4, 2) := dk_21 4 (dk_at dksX0_fairOf_1 3 rfl rfl)
theorem dX0_fairOf_28 : decode cX0_fairOf 28 = .ok (.imul, 1) := dk_104 (dk_at dksX0_fairOf_1 5 rfl rfl)
theorem dX0_fairOf_29 : decode cX0_fairOf 29 = .ok (.sipush 12345, 3) := dk_17 48 57 (dk_at dksX0_fairOf_1 6 rfl rfl)
theorem dX0_fairOf_32 : decode cX0_fairOf 32 = .ok (.iadd, 1) := dk_96 (dk_at dksX0_fairOf_1 9 rfl rfl)
theorem dX0_fairOf_33 : decode cX0_fairOf 33 = .ok (.istore 4, 2) := dk_54 4 (dk_at dksX0_fairOf_1 10 rfl rfl)
theorem dX0_fairOf_35 : decode cX0_fairOf 35 = .ok (.iload 4, 2) := dk_21 4 (dk_at dksX0_fairOf_1 12 rfl rfl)
theorem dX0_fairOf_37 : decode cX0_fairOf 37 = .ok (.bipush 16, 2) := dk_16 16 (dk_at dksX0_fairOf_1 14 rfl rfl)
theorem dX0_fairOf_39 : decode cX0_fairOf 39 = .ok (.iushr, 1) := dk_124 (dk_at dksX0_fairOf_1 16 rfl rfl)
theorem dX0_fairOf_40 : decode cX0_fairOf 40 = .ok (.aload_n 0, 1) := dk_42 (dk_at dksX0_fairOf_1 17 rfl rfl)
theorem dX0_fairOf_41 : decode cX0_fairOf 41 = .ok (.getfield 25, 3) := dk_180 0 25 (dk_at dksX0_fairOf_1 18 rfl rfl)
theorem dX0_fairOf_44 : decode cX0_fairOf 44 = .ok (.irem, 1) := dk_112 (dk_at dksX0_fairOf_1 21 rfl rfl)
theorem dX0_fairOf_45 : decode cX0_fairOf 45 = .ok (.istore 6, 2) := dk_54 6 (dk_at dksX0_fairOf_1 22 rfl rfl)
theorem dX0_fairOf_47 : decode cX0_fairOf 47 = .ok (.ldc_w 294, 3) := dk_19 1 38 (dk_at dksX0_fairOf_2 0 rfl rfl)
theorem dX0_fairOf_50 : decode cX0_fairOf 50 = .ok (.iload 4, 2) := dk_21 4 (dk_at dksX0_fairOf_2 3 rfl rfl)
theorem dX0_fairOf_52 : decode cX0_fairOf 52 = .ok (.imul, 1) := dk_104 (dk_at dksX0_fairOf_2 5 rfl rfl)
theorem dX0_fairOf_53 : decode cX0_fairOf 53 = .ok (.sipush 12345, 3) := dk_17 48 57 (dk_at dksX0_fairOf_2 6 rfl rfl)
theorem dX0_fairOf_56 : decode cX0_fairOf 56 = .ok (.iadd, 1) := dk_96 (dk_at dksX0_fairOf_2 9 rfl rfl)
theorem dX0_fairOf_57 : decode cX0_fairOf 57 = .ok (.istore 4, 2) := dk_54 4 (dk_at dksX0_fairOf_2 10 rfl rfl)
theorem dX0_fairOf_59 : decode cX0_fairOf 59 = .ok (.aload_n 0, 1) := dk_42 (dk_at dksX0_fairOf_2 12 rfl rfl)
theorem dX0_fairOf_60 : decode cX0_fairOf 60 = .ok (.aload_n 0, 1) := dk_42 (dk_at dksX0_fairOf_2 13 rfl rfl)
theorem dX0_fairOf_61 : decode cX0_fairOf 61 = .ok (.getfield 49, 3) := dk_180 0 49 (dk_at dksX0_fairOf_2 14 rfl rfl)
theorem dX0_fairOf_64 : decode cX0_fairOf 64 = .ok (.iload 4, 2) := dk_21 4 (dk_at dksX0_fairOf_2 17 rfl rfl)
theorem dX0_fairOf_66 : decode cX0_fairOf 66 = .ok (.bipush 16, 2) := dk_16 16 (dk_at dksX0_fairOf_2 19 rfl rfl)
theorem dX0_fairOf_68 : decode cX0_fairOf 68 = .ok (.iushr, 1) := dk_124 (dk_at dksX0_fairOf_2 21 rfl rfl)
theorem dX0_fairOf_69 : decode cX0_fairOf 69 = .ok (.aload_n 0, 1) := dk_42 (dk_at dksX0_fairOf_2 22 rfl rfl)
theorem dX0_fairOf_70 : decode cX0_fairOf 70 = .ok (.getfield 46, 3) := dk_180 0 46 (dk_at dksX0_fairOf_3 0 rfl rfl)
theorem dX0_fairOf_73 : decode cX0_fairOf 73 = .ok (.irem, 1) := dk_112 (dk_at dksX0_fairOf_3 3 rfl rfl)
theorem dX0_fairOf_74 : decode cX0_fairOf 74 = .ok (.aaload, 1) := dk_50 (dk_at dksX0_fairOf_3 4 rfl rfl)
theorem dX0_fairOf_75 : decode cX0_fairOf 75 = .ok (.aload_n 0, 1) := dk_42 (dk_at dksX0_fairOf_3 5 rfl rfl)
theorem dX0_fairOf_76 : decode cX0_fairOf 76 = .ok (.getfield 141, 3) := dk_180 0 141 (dk_at dksX0_fairOf_3 6 rfl rfl)
theorem dX0_fairOf_79 : decode cX0_fairOf 79 = .ok (.iload 6, 2) := dk_21 6 (dk_at dksX0_fairOf_3 9 rfl rfl)
theorem dX0_fairOf_81 : decode cX0_fairOf 81 = .ok (.aaload, 1) := dk_50 (dk_at dksX0_fairOf_3 11 rfl rfl)
theorem dX0_fairOf_82 : decode cX0_fairOf 82 = .ok (.invokevirtual 184, 3) := dk_182 0 184 (dk_at dksX0_fairOf_3 12 rfl rfl)
theorem dX0_fairOf_85 : decode cX0_fairOf 85 = .ok (.iinc 5 1, 3) := dk_132 5 1 (dk_at dksX0_fairOf_3 15 rfl rfl)
theorem dX0_fairOf_88 : decode cX0_fairOf 88 = .ok (.goto (-78), 3) := dk_167 255 178 (dk_at dksX0_fairOf_3 18 rfl rfl)
theorem dX0_fairOf_91 : decode cX0_fairOf 91 = .ok (.aload_n 0, 1) := dk_42 (dk_at dksX0_fairOf_3 21 rfl rfl)
theorem dX0_fairOf_92 : decode cX0_fairOf 92 = .ok (.getfield 141, 3) := dk_180 0 141 (dk_at dksX0_fairOf_4 0 rfl rfl)
theorem dX0_fairOf_95 : decode cX0_fairOf 95 = .ok (.iload_n 3, 1) := dk_29 (dk_at dksX0_fairOf_4 3 rfl rfl)
theorem dX0_fairOf_96 : decode cX0_fairOf 96 = .ok (.aaload, 1) := dk_50 (dk_at dksX0_fairOf_4 4 rfl rfl)
theorem dX0_fairOf_97 : decode cX0_fairOf 97 = .ok (.getfield 37, 3) := dk_180 0 37 (dk_at dksX0_fairOf_4 5 rfl rfl)
theorem dX0_fairOf_100 : decode cX0_fairOf 100 = .ok (.ireturn, 1) := dk_172 (dk_at dksX0_fairOf_4 8 rfl rfl)
def dkwX0_init_13 : List UInt8 := [5, 50, 27, 187, 1, 56, 89, 183, 1, 58, 83, 132, 1, 1, 167, 255, 163, 177]
abbrev dktX0_init_13 : List UInt8 := dkwX0_init_13 ++ []
def dkwX0_init_12 : List UInt8 := [89, 183, 1, 52, 83, 42, 180, 0, 53, 4, 50, 27, 187, 1, 53, 89, 183, 1, 55, 83, 42, 180, 0, 53]
abbrev dktX0_init_12 : List UInt8 := dkwX0_init_12 ++ dktX0_init_13
def dkwX0_init_11 : List UInt8 := [83, 42, 180, 0, 169, 27, 187, 0, 38, 89, 183, 1, 50, 83, 42, 180, 0, 53, 3, 50, 27, 187, 0, 58]
abbrev dktX0_init_11 : List UInt8 := dkwX0_init_11 ++ dktX0_init_12
def dkwX0_init_10 : List UInt8 := [180, 0, 33, 27, 187, 0, 38, 89, 183, 1, 50, 83, 42, 180, 0, 141, 27, 187, 0, 38, 89, 183, 1, 50]
abbrev dktX0_init_10 : List UInt8 := dkwX0_init_10 ++ dktX0_init_11
def dkwX0_init_9 : List UInt8 := [83, 89, 6, 187, 0, 122, 89, 183, 1, 51, 83, 181, 0, 117, 3, 60, 27, 16, 6, 162, 0, 93, 42]
abbrev dktX0_init_9 : List UInt8 := dkwX0_init_9 ++ dktX0_init_10
def dkwX0_init_8 : List UInt8 := [89, 183, 1, 51, 83, 89, 4, 187, 0, 122, 89, 183, 1, 51, 83, 89, 5, 187, 0, 122, 89, 183, 1, 51]
abbrev dktX0_init_8 : List UInt8 := dkwX0_init_8 ++ dktX0_init_9
def dkwX0_init_7 : List UInt8 := [183, 1, 50, 181, 0, 216, 42, 16, 41, 188, 10, 181, 0, 251, 42, 7, 189, 0, 122, 89, 3, 187, 0, 122]
abbrev dktX0_init_7 : List UInt8 := dkwX0_init_7 ++ dktX0_init_8
def dkwX0_init_6 : List UInt8 := [16, 12, 188, 10, 181, 0, 158, 42, 187, 0, 38, 89, 183, 1, 50, 181, 0, 161, 42, 187, 0, 38, 89]
abbrev dktX0_init_6 : List UInt8 := dkwX0_init_6 ++ dktX0_init_7
def dkwX0_init_5 : List UInt8 := [16, 6, 188, 10, 181, 0, 148, 42, 16, 12, 188, 4, 181, 0, 151, 42, 16, 12, 188, 4, 181, 0, 155, 42]
abbrev dktX0_init_5 : List UInt8 := dkwX0_init_5 ++ dktX0_init_6
def dkwX0_init_4 : List UInt8 := [5, 181, 0, 138, 42, 16, 6, 189, 0, 38, 181, 0, 141, 42, 16, 6, 189, 0, 38, 181, 0, 169, 42]
abbrev dktX0_init_4 : List UInt8 := dkwX0_init_4 ++ dktX0_init_5
def dkwX0_init_3 : List UInt8 := [181, 0, 53, 42, 16, 6, 189, 0, 58, 181, 0, 49, 42, 7, 16, 12, 197, 1, 49, 2, 181, 0, 111, 42]
abbrev dktX0_init_3 : List UInt8 := dkwX0_init_3 ++ dktX0_init_4
def dkwX0_init_2 : List UInt8 := [4, 2, 79, 181, 0, 65, 42, 16, 6, 189, 0, 38, 181, 0, 33, 42, 6, 16, 6, 197, 1, 48, 2]
abbrev dktX0_init_2 : List UInt8 := dkwX0_init_2 ++ dktX0_init_3
def dkwX0_init_1 : List UInt8 := [181, 0, 17, 42, 5, 188, 10, 181, 0, 13, 42, 4, 181, 0, 21, 42, 5, 188, 10, 89, 3, 2, 79, 89]
abbrev dktX0_init_1 : List UInt8 := dkwX0_init_1 ++ dktX0_init_2
def dkwX0_init_0 : List UInt8 := [42, 183, 1, 42, 42, 5, 189, 1, 47, 89, 3, 16, 59, 188, 10, 83, 89, 4, 16, 23, 188, 10, 83]
abbrev dktX0_init_0 : List UInt8 := dkwX0_init_0 ++ dktX0_init_1
theorem dksX0_init_0 : cX0_init.data.toList.drop 0 = dktX0_init_0 := by decide +kernel
theorem dksX0_init_1 : cX0_init.data.toList.drop 23 = dktX0_init_1 := dk_seg dksX0_init_0 23 rfl rfl
theorem dksX0_init_2 : cX0_init.data.toList.drop 47 = dktX0_init_2 := dk_seg dksX0_init_1 24 rfl rfl
theorem dksX0_init_3 : cX0_init.data.toList.drop 70 = dktX0_init_3 := dk_seg dksX0_init_2 23 rfl rfl
theorem dksX0_init_4 : cX0_init.data.toList.drop 94 = dktX0_init_4 := dk_seg dksX0_init_3 24 rfl rfl
theorem dksX0_init_5 : cX0_init.data.toList.drop 117 = dktX0_init_5 := dk_seg dksX0_init_4 23 rfl rfl
theorem dksX0_init_6 : cX0_init.data.toList.drop 141 = dktX0_init_6 := dk_seg dksX0_init_5 24 rfl rfl
theorem dksX0_init_7 : cX0_init.data.toList.drop 164 = dktX0_init_7 := dk_seg dksX0_init_6 23 rfl rfl
theorem dksX0_init_8 : cX0_init.data.toList.drop 188 = dktX0_init_8 := dk_seg dksX0_init_7 24 rfl rfl
theorem dksX0_init_9 : cX0_init.data.toList.drop 212 = dktX0_init_9 := dk_seg dksX0_init_8 24 rfl rfl
theorem dksX0_init_10 : cX0_init.data.toList.drop 235 = dktX0_init_10 := dk_seg dksX0_init_9 23 rfl rfl
theorem dksX0_init_11 : cX0_init.data.toList.drop 259 = dktX0_init_11 := dk_seg dksX0_init_10 24 rfl rfl
theorem dksX0_init_12 : cX0_init.data.toList.drop 283 = dktX0_init_12 := dk_seg dksX0_init_11 24 rfl rfl
theorem dksX0_init_13 : cX0_init.data.toList.drop 307 = dktX0_init_13 := dk_seg dksX0_init_12 24 rfl rfl
theorem dX0_init_0 : decode cX0_init 0 = .ok (.aload_n 0, 1) := dk_42 (dk_at dksX0_init_0 0 rfl rfl)
theorem dX0_init_1 : decode cX0_init 1 = .ok (.invokespecial 298, 3) := dk_183 1 42 (dk_at dksX0_init_0 1 rfl rfl)
theorem dX0_init_4 : decode cX0_init 4 = .ok (.aload_n 0, 1) := dk_42 (dk_at dksX0_init_0 4 rfl rfl)
theorem dX0_init_5 : decode cX0_init 5 = .ok (.iconst 2, 1) := dk_5 (dk_at dksX0_init_0 5 rfl rfl)
theorem dX0_init_6 : decode cX0_init 6 = .ok (.anewarray 303, 3) := dk_189 1 47 (dk_at dksX0_init_0 6 rfl rfl)
theorem dX0_init_9 : decode cX0_init 9 = .ok (.dup, 1) := dk_89 (dk_at dksX0_init_0 9 rfl rfl)
theorem dX0_init_10 : decode cX0_init 10 = .ok (.iconst 0, 1) := dk_3 (dk_at dksX0_init_0 10 rfl rfl)
theorem dX0_init_11 : decode cX0_init 11 = .ok (.bipush 59, 2) := dk_16 59 (dk_at dksX0_init_0 11 rfl rfl)
theorem dX0_init_13 : decode cX0_init 13 = .ok (.newarray .int, 2) := dk_188_10 (dk_at dksX0_init_0 13 rfl rfl)
theorem dX0_init_15 : decode cX0_init 15 = .ok (.aastore, 1) := dk_83 (dk_at dksX0_init_0 15 rfl rfl)
theorem dX0_init_16 : decode cX0_init 16 = .ok (.dup, 1) := dk_89 (dk_at dksX0_init_0 16 rfl rfl)
theorem dX0_init_17 : decode cX0_init 17 = .ok (.iconst 1, 1) := dk_4 (dk_at dksX0_init_0 17 rfl rfl)
theorem dX0_init_18 : decode cX0_init 18 = .ok (.bipush 23, 2) := dk_16 23 (dk_at dksX0_init_0 18 rfl rfl)
theorem dX0_init_20 : decode cX0_init 20 = .ok (.newarray .int, 2) := dk_188_10 (dk_at dksX0_init_0 20 rfl rfl)
theorem dX0_init_22 : decode cX0_init 22 = .ok (.aastore, 1) := dk_83 (dk_at dksX0_init_0 22 rfl rfl)
theorem dX0_init_23 : decode cX0_init 23 = .ok (.putfield 17, 3) := dk_181 0 17 (dk_at dksX0_init_1 0 rfl rfl)
theorem dX0_init_26 : decode cX0_init 26 = .ok (.aload_n 0, 1) := dk_42 (dk_at dksX0_init_1 3 rfl rfl)
theorem dX0_init_27 : decode cX0_init 27 = .ok (.iconst 2, 1) := dk_5 (dk_at dksX0_init_1 4 rfl rfl)
theorem dX0_init_28 : decode cX0_init 28 = .ok (.newarray .int, 2) := dk_188_10 (dk_at dksX0_init_1 5 rfl rfl)
theorem dX0_init_30 : decode cX0_init 30 = .ok (.putfield 13, 3) := dk_181 0 13 (dk_at dksX0_init_1 7 rfl rfl)
theorem dX0_init_33 : decode cX0_init 33 = .ok (.aload_n 0, 1) := dk_42 (dk_at dksX0_init_1 10 rfl rfl)
theorem dX0_init_34 : decode cX0_init 34 = .ok (.iconst 1, 1) := dk_4 (dk_at dksX0_init_1 11 rfl rfl)
theorem dX0_init_35 : decode cX0_init 35 = .ok (.putfield 21, 3) := dk_181 0 21 (dk_at dksX0_init_1 12 rfl rfl)
theorem dX0_init_38 : decode cX0_init 38 = .ok (.aload_n 0, 1) := dk_42 (dk_at dksX0_init_1 15 rfl rfl)
theorem dX0_init_39 : decode cX0_init 39 = .ok (.iconst 2, 1) := dk_5 (dk_at dksX0_init_1 16 rfl rfl)
theorem dX0_init_40 : decode cX0_init 40 = .ok (.newarray .int, 2) := dk_188_10 (dk_at dksX0_init_1 17 rfl rfl)
theorem dX0_init_42 : decode cX0_init 42 = .ok (.dup, 1) := dk_89 (dk_at dksX0_init_1 19 rfl rfl)
theorem dX0_init_43 : decode cX0_init 43 = .ok (.iconst 0, 1) := dk_3 (dk_at dksX0_init_1 20 rfl rfl)
theorem dX0_init_44 : decode cX0_init 44 = .ok (.iconst (-1), 1) := dk_2 (dk_at dksX0_init_1 21 rfl rfl)
theorem dX0_init_45 : decode cX0_init 45 = .ok (.iastore, 1) := dk_79 (dk_at dksX0_init_1 22 rfl rfl)
theorem dX0_init_46 : decode cX0_init 46 = .ok (.dup, 1) := dk_89 (dk_at dksX0_init_1 23 rfl rfl)
theorem dX0_init_47 : decode cX0_init 47 = .ok (.iconst 1, 1) := dk_4 (dk_at dksX0_init_2 0 rfl rfl)
theorem dX0_init_48 : decode cX0_init 48 = .ok (.iconst (-1), 1) := dk_2 (dk_at dksX0_init_2 1 rfl rfl)
theorem dX0_init_49 : decode cX0_init 49 = .ok (.iastore, 1) := dk_79 (dk_at dksX0_init_2 2 rfl rfl)
theorem dX0_init_50 : decode cX0_init 50 = .ok (.putfield 65, 3) := dk_181 0 65 (dk_at dksX0_init_2 3 rfl rfl)
theorem dX0_init_53 : decode cX0_init 53 = .ok (.aload_n 0, 1) := dk_42 (dk_at dksX0_init_2 6 rfl rfl)
theorem dX0_init_54 : decode cX0_init 54 = .ok (.bipush 6, 2) := dk_16 6 (dk_at dksX0_init_2 7 rfl rfl)
theorem dX0_init_56 : decode cX0_init 56 = .ok (.anewarray 38, 3) := dk_189 0 38 (dk_at dksX0_init_2 9 rfl rfl)
theorem dX0_init_59 : decode cX0_init 59 = .ok (.putfield 33, 3) := dk_181 0 33 (dk_at dksX0_init_2 12 rfl rfl)
theorem dX0_init_62 : decode cX0_init 62 = .ok (.aload_n 0, 1) := dk_42 (dk_at dksX0_init_2 15 rfl rfl)
theorem dX0_init_63 : decode cX0_init 63 = .ok (.iconst 3, 1) := dk_6 (dk_at dksX0_init_2 16 rfl rfl)
theorem dX0_init_64 : decode cX0_init 64 = .ok (.bipush 6, 2) := dk_16 6 (dk_at dksX0_init_2 17 rfl rfl)
theorem dX0_init_66 : decode cX0_init 66 = .ok (.multianewarray 304 2, 4) := by decide +kernel
theorem dX0_init_70 : decode cX0_init 70 = .ok (.putfield 53, 3) := dk_181 0 53 (dk_at dksX0_init_3 0 rfl rfl)
theorem dX0_init_73 : decode cX0_init 73 = .ok (.aload_n 0, 1) := dk_42 (dk_at dksX0_init_3 3 rfl rfl)
theorem dX0_init_74 : decode cX0_init 74 = .ok (.bipush 6, 2) := dk_16 6 (dk_at dksX0_init_3 4 rfl rfl)
theorem dX0_init_76 : decode cX0_init 76 = .ok (.anewarray 58, 3) := dk_189 0 58 (dk_at dksX0_init_3 6 rfl rfl)
theorem dX0_init_79 : decode cX0_init 79 = .ok (.putfield 49, 3) := dk_181 0 49 (dk_at dksX0_init_3 9 rfl rfl)
theorem dX0_init_82 : decode cX0_init 82 = .ok (.aload_n 0, 1) := dk_42 (dk_at dksX0_init_3 12 rfl rfl)
theorem dX0_init_83 : decode cX0_init 83 = .ok (.iconst 4, 1) := dk_7 (dk_at dksX0_init_3 13 rfl rfl)
theorem dX0_init_84 : decode cX0_init 84 = .ok (.bipush 12, 2) := dk_16 12 (dk_at dksX0_init_3 14 rfl rfl)
theorem dX0_init_86 : decode cX0_init 86 = .ok (.multianewarray 305 2, 4) := by decide +kernel
theorem dX0_init_90 : decode cX0_init 90 = .ok (.putfield 111, 3) := dk_181 0 111 (dk_at dksX0_init_3 20 rfl rfl)
theorem dX0_init_93 : decode cX0_init 93 = .ok (.aload_n 0, 1) := dk_42 (dk_at dksX0_init_3 23 rfl rfl)
theorem dX0_init_94 : decode cX0_init 94 = .ok (.iconst 2, 1) := dk_5 (dk_at dksX0_init_4 0 rfl rfl)
theorem dX0_init_95 : decode cX0_init 95 = .ok (.putfield 138, 3) := dk_181 0 138 (dk_at dksX0_init_4 1 rfl rfl)
theorem dX0_init_98 : decode cX0_init 98 = .ok (.aload_n 0, 1) := dk_42 (dk_at dksX0_init_4 4 rfl rfl)
theorem dX0_init_99 : decode cX0_init 99 = .ok (.bipush 6, 2) := dk_16 6 (dk_at dksX0_init_4 5 rfl rfl)
theorem dX0_init_101 : decode cX0_init 101 = .ok (.anewarray 38, 3) := dk_189 0 38 (dk_at dksX0_init_4 7 rfl rfl)
theorem dX0_init_104 : decode cX0_init 104 = .ok (.putfield 141, 3) := dk_181 0 141 (dk_at dksX0_init_4 10 rfl rfl)
theorem dX0_init_107 : decode cX0_init 107 = .ok (.aload_n 0, 1) := dk_42 (dk_at dksX0_init_4 13 rfl rfl)
theorem dX0_init_108 : decode cX0_init 108 = .ok (.bipush 6, 2) := dk_16 6 (dk_at dksX0_init_4 14 rfl rfl)
theorem dX0_init_110 : decode cX0_init 110 = .ok (.anewarray 38, 3) := dk_189 0 38 (dk_at dksX0_init_4 16 rfl rfl)
theorem dX0_init_113 : decode cX0_init 113 = .ok (.putfield 169, 3) := dk_181 0 169 (dk_at dksX0_init_4 19 rfl rfl)
theorem dX0_init_116 : decode cX0_init 116 = .ok (.aload_n 0, 1) := dk_42 (dk_at dksX0_init_4 22 rfl rfl)
theorem dX0_init_117 : decode cX0_init 117 = .ok (.bipush 6, 2) := dk_16 6 (dk_at dksX0_init_5 0 rfl rfl)
theorem dX0_init_119 : decode cX0_init 119 = .ok (.newarray .int, 2) := dk_188_10 (dk_at dksX0_init_5 2 rfl rfl)
theorem dX0_init_121 : decode cX0_init 121 = .ok (.putfield 148, 3) := dk_181 0 148 (dk_at dksX0_init_5 4 rfl rfl)
theorem dX0_init_124 : decode cX0_init 124 = .ok (.aload_n 0, 1) := dk_42 (dk_at dksX0_init_5 7 rfl rfl)
theorem dX0_init_125 : decode cX0_init 125 = .ok (.bipush 12, 2) := dk_16 12 (dk_at dksX0_init_5 8 rfl rfl)
theorem dX0_init_127 : decode cX0_init 127 = .ok (.newarray .boolean, 2) := dk_188_4 (dk_at dksX0_init_5 10 rfl rfl)
theorem dX0_init_129 : decode cX0_init 129 = .ok (.putfield 151, 3) := dk_181 0 151 (dk_at dksX0_init_5 12 rfl rfl)
theorem dX0_init_132 : decode cX0_init 132 = .ok (.aload_n 0, 1) := dk_42 (dk_at dksX0_init_5 15 rfl rfl)
theorem dX0_init_133 : decode cX0_init 133 = .ok (.bipush 12, 2) := dk_16 12 (dk_at dksX0_init_5 16 rfl rfl)
theorem dX0_init_135 : decode cX0_init 135 = .ok (.newarray .boolean, 2) := dk_188_4 (dk_at dksX0_init_5 18 rfl rfl)
theorem dX0_init_137 : decode cX0_init 137 = .ok (.putfield 155, 3) := dk_181 0 155 (dk_at dksX0_init_5 20 rfl rfl)
theorem dX0_init_140 : decode cX0_init 140 = .ok (.aload_n 0, 1) := dk_42 (dk_at dksX0_init_5 23 rfl rfl)
theorem dX0_init_141 : decode cX0_init 141 = .ok (.bipush 12, 2) := dk_16 12 (dk_at dksX0_init_6 0 rfl rfl)
theorem dX0_init_143 : decode cX0_init 143 = .ok (.newarray .int, 2) := dk_188_10 (dk_at dksX0_init_6 2 rfl rfl)
theorem dX0_init_145 : decode cX0_init 145 = .ok (.putfield 158, 3) := dk_181 0 158 (dk_at dksX0_init_6 4 rfl rfl)
theorem dX0_init_148 : decode cX0_init 148 = .ok (.aload_n 0, 1) := dk_42 (dk_at dksX0_init_6 7 rfl rfl)
theorem dX0_init_149 : decode cX0_init 149 = .ok (.new 38, 3) := dk_187 0 38 (dk_at dksX0_init_6 8 rfl rfl)
theorem dX0_init_152 : decode cX0_init 152 = .ok (.dup, 1) := dk_89 (dk_at dksX0_init_6 11 rfl rfl)
theorem dX0_init_153 : decode cX0_init 153 = .ok (.invokespecial 306, 3) := dk_183 1 50 (dk_at dksX0_init_6 12 rfl rfl)
theorem dX0_init_156 : decode cX0_init 156 = .ok (.putfield 161, 3) := dk_181 0 161 (dk_at dksX0_init_6 15 rfl rfl)
theorem dX0_init_159 : decode cX0_init 159 = .ok (.aload_n 0, 1) := dk_42 (dk_at dksX0_init_6 18 rfl rfl)
theorem dX0_init_160 : decode cX0_init 160 = .ok (.new 38, 3) := dk_187 0 38 (dk_at dksX0_init_6 19 rfl rfl)
theorem dX0_init_163 : decode cX0_init 163 = .ok (.dup, 1) := dk_89 (dk_at dksX0_init_6 22 rfl rfl)
theorem dX0_init_164 : decode cX0_init 164 = .ok (.invokespecial 306, 3) := dk_183 1 50 (dk_at dksX0_init_7 0 rfl rfl)
theorem dX0_init_167 : decode cX0_init 167 = .ok (.putfield 216, 3) := dk_181 0 216 (dk_at dksX0_init_7 3 rfl rfl)
theorem dX0_init_170 : decode cX0_init 170 = .ok (.aload_n 0, 1) := dk_42 (dk_at dksX0_init_7 6 rfl rfl)
theorem dX0_init_171 : decode cX0_init 171 = .ok (.bipush 41, 2) := dk_16 41 (dk_at dksX0_init_7 7 rfl rfl)
theorem dX0_init_173 : decode cX0_init 173 = .ok (.newarray .int, 2) := dk_188_10 (dk_at dksX0_init_7 9 rfl rfl)
theorem dX0_init_175 : decode cX0_init 175 = .ok (.putfield 251, 3) := dk_181 0 251 (dk_at dksX0_init_7 11 rfl rfl)
theorem dX0_init_178 : decode cX0_init 178 = .ok (.aload_n 0, 1) := dk_42 (dk_at dksX0_init_7 14 rfl rfl)
theorem dX0_init_179 : decode cX0_init 179 = .ok (.iconst 4, 1) := dk_7 (dk_at dksX0_init_7 15 rfl rfl)
theorem dX0_init_180 : decode cX0_init 180 = .ok (.anewarray 122, 3) := dk_189 0 122 (dk_at dksX0_init_7 16 rfl rfl)
theorem dX0_init_183 : decode cX0_init 183 = .ok (.dup, 1) := dk_89 (dk_at dksX0_init_7 19 rfl rfl)
theorem dX0_init_184 : decode cX0_init 184 = .ok (.iconst 0, 1) := dk_3 (dk_at dksX0_init_7 20 rfl rfl)
theorem dX0_init_185 : decode cX0_init 185 = .ok (.new 122, 3) := dk_187 0 122 (dk_at dksX0_init_7 21 rfl rfl)
theorem dX0_init_188 : decode cX0_init 188 = .ok (.dup, 1) := dk_89 (dk_at dksX0_init_8 0 rfl rfl)
theorem dX0_init_189 : decode cX0_init 189 = .ok (.invokespecial 307, 3) := dk_183 1 51 (dk_at dksX0_init_8 1 rfl rfl)
theorem dX0_init_192 : decode cX0_init 192 = .ok (.aastore, 1) := dk_83 (dk_at dksX0_init_8 4 rfl rfl)
theorem dX0_init_193 : decode cX0_init 193 = .ok (.dup, 1) := dk_89 (dk_at dksX0_init_8 5 rfl rfl)
theorem dX0_init_194 : decode cX0_init 194 = .ok (.iconst 1, 1) := dk_4 (dk_at dksX0_init_8 6 rfl rfl)
theorem dX0_init_195 : decode cX0_init 195 = .ok (.new 122, 3) := dk_187 0 122 (dk_at dksX0_init_8 7 rfl rfl)
theorem dX0_init_198 : decode cX0_init 198 = .ok (.dup, 1) := dk_89 (dk_at dksX0_init_8 10 rfl rfl)
theorem dX0_init_199 : decode cX0_init 199 = .ok (.invokespecial 307, 3) := dk_183 1 51 (dk_at dksX0_init_8 11 rfl rfl)
theorem dX0_init_202 : decode cX0_init 202 = .ok (.aastore, 1) := dk_83 (dk_at dksX0_init_8 14 rfl rfl)
theorem dX0_init_203 : decode cX0_init 203 = .ok (.dup, 1) := dk_89 (dk_at dksX0_init_8 15 rfl rfl)
theorem dX0_init_204 : decode cX0_init 204 = .ok (.iconst 2, 1) := dk_5 (dk_at dksX0_init_8 16 rfl rfl)
theorem dX0_init_205 : decode cX0_init 205 = .ok (.new 122, 3) := dk_187 0 122 (dk_at dksX0_init_8 17 rfl rfl)
theorem dX0_init_208 : decode cX0_init 208 = .ok (.dup, 1) := dk_89 (dk_at dksX0_init_8 20 rfl rfl)
theorem dX0_init_209 : decode cX0_init 209 = .ok (.invokespecial 307, 3) := dk_183 1 51 (dk_at dksX0_init_8 21 rfl rfl)
theorem dX0_init_212 : decode cX0_init 212 = .ok (.aastore, 1) := dk_83 (dk_at dksX0_init_9 0 rfl rfl)
theorem dX0_init_213 : decode cX0_init 213 = .ok (.dup, 1) := dk_89 (dk_at dksX0_init_9 1 rfl rfl)
theorem dX0_init_214 : decode cX0_init 214 = .ok (.iconst 3, 1) := dk_6 (dk_at dksX0_init_9 2 rfl rfl)
theorem dX0_init_215 : decode cX0_init 215 = .ok (.new 122, 3) := dk_187 0 122 (dk_at dksX0_init_9 3 rfl rfl)
theorem dX0_init_218 : decode cX0_init 218 = .ok (.dup, 1) := dk_89 (dk_at dksX0_init_9 6 rfl rfl)
theorem dX0_init_219 : decode cX0_init 219 = .ok (.invokespecial 307, 3) := dk_183 1 51 (dk_at dksX0_init_9 7 rfl rfl)
theorem dX0_init_222 : decode cX0_init 222 = .ok (.aastore, 1) := dk_83 (dk_at dksX0_init_9 10 rfl rfl)
theorem dX0_init_223 : decode cX0_init 223 = .ok (.putfield 117, 3) := dk_181 0 117 (dk_at dksX0_init_9 11 rfl rfl)
theorem dX0_init_226 : decode cX0_init 226 = .ok (.iconst 0, 1) := dk_3 (dk_at dksX0_init_9 14 rfl rfl)
theorem dX0_init_227 : decode cX0_init 227 = .ok (.istore_n 1, 1) := dk_60 (dk_at dksX0_init_9 15 rfl rfl)
theorem dX0_init_228 : decode cX0_init 228 = .ok (.iload_n 1, 1) := dk_27 (dk_at dksX0_init_9 16 rfl rfl)
theorem dX0_init_229 : decode cX0_init 229 = .ok (.bipush 6, 2) := dk_16 6 (dk_at dksX0_init_9 17 rfl rfl)
theorem dX0_init_231 : decode cX0_init 231 = .ok (.if_icmp .ge 93, 3) := dk_162 0 93 (dk_at dksX0_init_9 19 rfl rfl)
theorem dX0_init_234 : decode cX0_init 234 = .ok (.aload_n 0, 1) := dk_42 (dk_at dksX0_init_9 22 rfl rfl)
theorem dX0_init_235 : decode cX0_init 235 = .ok (.getfield 33, 3) := dk_180 0 33 (dk_at dksX0_init_10 0 rfl rfl)
theorem dX0_init_238 : decode cX0_init 238 = .ok (.iload_n 1, 1) := dk_27 (dk_at dksX0_init_10 3 rfl rfl)
theorem dX0_init_239 : decode cX0_init 239 = .ok (.new 38, 3) := dk_187 0 38 (dk_at dksX0_init_10 4 rfl rfl)
theorem dX0_init_242 : decode cX0_init 242 = .ok (.dup, 1) := dk_89 (dk_at dksX0_init_10 7 rfl rfl)
theorem dX0_init_243 : decode cX0_init 243 = .ok (.invokespecial 306, 3) := dk_183 1 50 (dk_at dksX0_init_10 8 rfl rfl)
theorem dX0_init_246 : decode cX0_init 246 = .ok (.aastore, 1) := dk_83 (dk_at dksX0_init_10 11 rfl rfl)
theorem dX0_init_247 : decode cX0_init 247 = .ok (.aload_n 0, 1) := dk_42 (dk_at dksX0_init_10 12 rfl rfl)
theorem dX0_init_248 : decode cX0_init 248 = .ok (.getfield 141, 3) := dk_180 0 141 (dk_at dksX0_init_10 13 rfl rfl)
theorem dX0_init_251 : decode cX0_init 251 = .ok (.iload_n 1, 1) := dk_27 (dk_at dksX0_init_10 16 rfl rfl)
theorem dX0_init_252 : decode cX0_init 252 = .ok (.new 38, 3) := dk_187 0 38 (dk_at dksX0_init_10 17 rfl rfl)
theorem dX0_init_255 : decode cX0_init 255 = .ok (.dup, 1) := dk_89 (dk_at dksX0_init_10 20 rfl rfl)
theorem dX0_init_256 : decode cX0_init 256 = .ok (.invokespecial 306, 3) := dk_183 1 50 (dk_at dksX0_init_10 21 rfl rfl)
theorem dX0_init_259 : decode cX0_init 259 = .ok (.aastore, 1) := dk_83 (dk_at dksX0_init_11 0 rfl rfl)
theorem dX0_init_260 : decode cX0_init 260 = .ok (.aload_n 0, 1) := dk_42 (dk_at dksX0_init_11 1 rfl rfl)
theorem dX0_init_261 : decode cX0_init 261 = .ok (.getfield 169, 3) := dk_180 0 169 (dk_at dksX0_init_11 2 rfl rfl)
theorem dX0_init_264 : decode cX0_init 264 = .ok (.iload_n 1, 1) := dk_27 (dk_at dksX0_init_11 5 rfl rfl)
theorem dX0_init_265 : decode cX0_init 265 = .ok (.new 38, 3) := dk_187 0 38 (dk_at dksX0_init_11 6 rfl rfl)
theorem dX0_init_268 : decode cX0_init 268 = .ok (.dup, 1) := dk_89 (dk_at dksX0_init_11 9 rfl rfl)
theorem dX0_init_269 : decode cX0_init 269 = .ok (.invokespecial 306, 3) := dk_183 1 50 (dk_at dksX0_init_11 10 rfl rfl)
theorem dX0_init_272 : decode cX0_init 272 = .ok (.aastore, 1) := dk_83 (dk_at dksX0_init_11 13 rfl rfl)
theorem dX0_init_273 : decode cX0_init 273 = .ok (.aload_n 0, 1) := dk_42 (dk_at dksX0_init_11 14 rfl rfl)
theorem dX0_init_274 : decode cX0_init 274 = .ok (.getfield 53, 3) := dk_180 0 53 (dk_at dksX0_init_11 15 rfl rfl)
theorem dX0_init_277 : decode cX0_init 277 = .ok (.iconst 0, 1) := dk_3 (dk_at dksX0_init_11 18 rfl rfl)
theorem dX0_init_278 : decode cX0_init 278 = .ok (.aaload, 1) := dk_50 (dk_at dksX0_init_11 19 rfl rfl)
theorem dX0_init_279 : decode cX0_init 279 = .ok (.iload_n 1, 1) := dk_27 (dk_at dksX0_init_11 20 rfl rfl)
theorem dX0_init_280 : decode cX0_init 280 = .ok (.new 58, 3) := dk_187 0 58 (dk_at dksX0_init_11 21 rfl rfl)
theorem dX0_init_283 : decode cX0_init 283 = .ok (.dup, 1) := dk_89 (dk_at dksX0_init_12 0 rfl rfl)
theorem dX0_init_284 : decode cX0_init 284 = .ok (.invokespecial 308, 3) := dk_183 1 52 (dk_at dksX0_init_12 1 rfl rfl)
theorem dX0_init_287 : decode cX0_init 287 = .ok (.aastore, 1) := dk_83 (dk_at dksX0_init_12 4 rfl rfl)
theorem dX0_init_288 : decode cX0_init 288 = .ok (.aload_n 0, 1) := dk_42 (dk_at dksX0_init_12 5 rfl rfl)
theorem dX0_init_289 : decode cX0_init 289 = .ok (.getfield 53, 3) := dk_180 0 53 (dk_at dksX0_init_12 6 rfl rfl)
theorem dX0_init_292 : decode cX0_init 292 = .ok (.iconst 1, 1) := dk_4 (dk_at dksX0_init_12 9 rfl rfl)
theorem dX0_init_293 : decode cX0_init 293 = .ok (.aaload, 1) := dk_50 (dk_at dksX0_init_12 10 rfl rfl)
theorem dX0_init_294 : decode cX0_init 294 = .ok (.iload_n 1, 1) := dk_27 (dk_at dksX0_init_12 11 rfl rfl)
theorem dX0_init_295 : decode cX0_init 295 = .ok (.new 309, 3) := dk_187 1 53 (dk_at dksX0_init_12 12 rfl rfl)
theorem dX0_init_298 : decode cX0_init 298 = .ok (.dup, 1) := dk_89 (dk_at dksX0_init_12 15 rfl rfl)
theorem dX0_init_299 : decode cX0_init 299 = .ok (.invokespecial 311, 3) := dk_183 1 55 (dk_at dksX0_init_12 16 rfl rfl)
theorem dX0_init_302 : decode cX0_init 302 = .ok (.aastore, 1) := dk_83 (dk_at dksX0_init_12 19 rfl rfl)
theorem dX0_init_303 : decode cX0_init 303 = .ok (.aload_n 0, 1) := dk_42 (dk_at dksX0_init_12 20 rfl rfl)
theorem dX0_init_304 : decode cX0_init 304 = .ok (.getfield 53, 3) := dk_180 0 53 (dk_at dksX0_init_12 21 rfl rfl)
theorem dX0_init_307 : decode cX0_init 307 = .ok (.iconst 2, 1) := dk_5 (dk_at dksX0_init_13 0 rfl rfl)
theorem dX0_init_308 : decode cX0_init 308 = .ok (.aaload, 1) := dk_50 (dk_at dksX0_init_13 1 rfl rfl)
theorem dX0_init_309 : decode cX0_init 309 = .ok (.iload_n 1, 1) := dk_27 (dk_at dksX0_init_13 2 rfl rfl)
theorem dX0_init_310 : decode cX0_init 310 = .ok (.new 312, 3) := dk_187 1 56 (dk_at dksX0_init_13 3 rfl rfl)
theorem dX0_init_313 : decode cX0_init 313 = .ok (.dup, 1) := dk_89 (dk_at dksX0_init_13 6 rfl rfl)
theorem dX0_init_314 : decode cX0_init 314 = .ok (.invokespecial 314, 3) := dk_183 1 58 (dk_at dksX0_init_13 7 rfl rfl)
theorem dX0_init_317 : decode cX0_init 317 = .ok (.aastore, 1) := dk_83 (dk_at dksX0_init_13 10 rfl rfl)
theorem dX0_init_318 : decode cX0_init 318 = .ok (.iinc 1 1, 3) := dk_132 1 1 (dk_at dksX0_init_13 11 rfl rfl)
theorem dX0_init_321 : decode cX0_init 321 = .ok (.goto (-93), 3) := dk_167 255 163 (dk_at dksX0_init_13 14 rfl rfl)
theorem dX0_init_324 : decode cX0_init 324 = .ok (.return_, 1) := dk_177 (dk_at dksX0_init_13 17 rfl rfl)
def dkwX0_sheet_2 : List UInt8 := [182, 0, 126, 172, 42, 180, 0, 117, 27, 50, 28, 181, 1, 68, 29, 172]
abbrev dktX0_sheet_2 : List UInt8 := dkwX0_sheet_2 ++ []
def dkwX0_sheet_1 : List UInt8 := [172, 42, 180, 0, 117, 27, 50, 28, 29, 184, 1, 62, 181, 0, 121, 167, 0, 11, 58, 4, 42, 8]
abbrev dktX0_sheet_1 : List UInt8 := dkwX0_sheet_1 ++ dktX0_sheet_2
def dkwX0_sheet_0 : List UInt8 := [27, 184, 0, 114, 153, 0, 18, 28, 3, 5, 184, 0, 5, 153, 0, 9, 29, 16, 60, 164, 0, 6, 16, 254]
abbrev dktX0_sheet_0 : List UInt8 := dkwX0_sheet_0 ++ dktX0_sheet_1
theorem dksX0_sheet_0 : cX0_sheet.data.toList.drop 0 = dktX0_sheet_0 := by decide +kernel
theorem dksX0_sheet_1 : cX0_sheet.data.toList.drop 24 = dktX0_sheet_1 := dk_seg dksX0_sheet_0 24 rfl rfl
theorem dksX0_sheet_2 : cX0_sheet.data.toList.drop 46 = dktX0_sheet_2 := dk_seg dksX0_sheet_1 22 rfl rfl
theorem dX0_sheet_0 : decode cX0_sheet 0 = .ok (.iload_n 1, 1) := dk_27 (dk_at dksX0_sheet_0 0 rfl rfl)
theorem dX0_sheet_1 : decode cX0_sheet 1 = .ok (.invokestatic 114, 3) := dk_184 0 114 (dk_at dksX0_sheet_0 1 rfl rfl)
theorem dX0_sheet_4 : decode cX0_sheet 4 = .ok (.ifCond .eq 18, 3) := dk_153 0 18 (dk_at dksX0_sheet_0 4 rfl rfl)
theorem dX0_sheet_7 : decode cX0_sheet 7 = .ok (.iload_n 2, 1) := dk_28 (dk_at dksX0_sheet_0 7 rfl rfl)
theorem dX0_sheet_8 : decode cX0_sheet 8 = .ok (.iconst 0, 1) := dk_3 (dk_at dksX0_sheet_0 8 rfl rfl)
theorem dX0_sheet_9 : decode cX0_sheet 9 = .ok (.iconst 2, 1) := dk_5 (dk_at dksX0_sheet_0 9 rfl rfl)
theorem dX0_sheet_10 : decode cX0_sheet 10 = .ok (.invokestatic 5, 3) := dk_184 0 5 (dk_at dksX0_sheet_0 10 rfl rfl)
theorem dX0_sheet_13 : decode cX0_sheet 13 = .ok (.ifCond .eq 9, 3) := dk_153 0 9 (dk_at dksX0_sheet_0 13 rfl rfl)
theorem dX0_sheet_16 : decode cX0_sheet 16 = .ok (.iload_n 3, 1) := dk_29 (dk_at dksX0_sheet_0 16 rfl rfl)
theorem dX0_sheet_17 : decode cX0_sheet 17 = .ok (.bipush 60, 2) := dk_16 60 (dk_at dksX0_sheet_0 17 rfl rfl)
theorem dX0_sheet_19 : decode cX0_sheet 19 = .ok (.if_icmp .le 6, 3) := dk_164 0 6 (dk_at dksX0_sheet_0 19 rfl rfl)
theorem dX0_sheet_22 : decode cX0_sheet 22 = .ok (.bipush (-2), 2) := dk_16 254 (dk_at dksX0_sheet_0 22 rfl rfl)
theorem dX0_sheet_24 : decode cX0_sheet 24 = .ok (.ireturn, 1) := dk_172 (dk_at dksX0_sheet_1 0 rfl rfl)
theorem dX0_sheet_25 : decode cX0_sheet 25 = .ok (.aload_n 0, 1) := dk_42 (dk_at dksX0_sheet_1 1 rfl rfl)
theorem dX0_sheet_26 : decode cX0_sheet 26 = .ok (.getfield 117, 3) := dk_180 0 117 (dk_at dksX0_sheet_1 2 rfl rfl)
theorem dX0_sheet_29 : decode cX0_sheet 29 = .ok (.iload_n 1, 1) := dk_27 (dk_at dksX0_sheet_1 5 rfl rfl)
theorem dX0_sheet_30 : decode cX0_sheet 30 = .ok (.aaload, 1) := dk_50 (dk_at dksX0_sheet_1 6 rfl rfl)
theorem dX0_sheet_31 : decode cX0_sheet 31 = .ok (.iload_n 2, 1) := dk_28 (dk_at dksX0_sheet_1 7 rfl rfl)
theorem dX0_sheet_32 : decode cX0_sheet 32 = .ok (.iload_n 3, 1) := dk_29 (dk_at dksX0_sheet_1 8 rfl rfl)
theorem dX0_sheet_33 : decode cX0_sheet 33 = .ok (.invokestatic 318, 3) := dk_184 1 62 (dk_at dksX0_sheet_1 9 rfl rfl)
theorem dX0_sheet_36 : decode cX0_sheet 36 = .ok (.putfield 121, 3) := dk_181 0 121 (dk_at dksX0_sheet_1 12 rfl rfl)
theorem dX0_sheet_39 : decode cX0_sheet 39 = .ok (.goto 11, 3) := dk_167 0 11 (dk_at dksX0_sheet_1 15 rfl rfl)
theorem dX0_sheet_42 : decode cX0_sheet 42 = .ok (.astore 4, 2) := dk_58 4 (dk_at dksX0_sheet_1 18 rfl rfl)
theorem dX0_sheet_44 : decode cX0_sheet 44 = .ok (.aload_n 0, 1) := dk_42 (dk_at dksX0_sheet_1 20 rfl rfl)
theorem dX0_sheet_45 : decode cX0_sheet 45 = .ok (.iconst 5, 1) := dk_8 (dk_at dksX0_sheet_1 21 rfl rfl)
theorem dX0_sheet_46 : decode cX0_sheet 46 = .ok (.invokevirtual 126, 3) := dk_182 0 126 (dk_at dksX0_sheet_2 0 rfl rfl)
theorem dX0_sheet_49 : decode cX0_sheet 49 = .ok (.ireturn, 1) := dk_172 (dk_at dksX0_sheet_2 3 rfl rfl)
theorem dX0_sheet_50 : decode cX0_sheet 50 = .ok (.aload_n 0, 1) := dk_42 (dk_at dksX0_sheet_2 4 rfl rfl)
theorem dX0_sheet_51 : decode cX0_sheet 51 = .ok (.getfield 117, 3) := dk_180 0 117 (dk_at dksX0_sheet_2 5 rfl rfl)
theorem dX0_sheet_54 : decode cX0_sheet 54 = .ok (.iload_n 1, 1) := dk_27 (dk_at dksX0_sheet_2 8 rfl rfl)
theorem dX0_sheet_55 : decode cX0_sheet 55 = .ok (.aaload, 1) := dk_50 (dk_at dksX0_sheet_2 9 rfl rfl)
theorem dX0_sheet_56 : decode cX0_sheet 56 = .ok (.iload_n 2, 1) := dk_28 (dk_at dksX0_sheet_2 10 rfl rfl)
theorem dX0_sheet_57 : decode cX0_sheet 57 = .ok (.putfield 324, 3) := dk_181 1 68 (dk_at dksX0_sheet_2 11 rfl rfl)
theorem dX0_sheet_60 : decode cX0_sheet 60 = .ok (.iload_n 3, 1) := dk_29 (dk_at dksX0_sheet_2 14 rfl rfl)
theorem dX0_sheet_61 : decode cX0_sheet 61 = .ok (.ireturn, 1) := dk_172 (dk_at dksX0_sheet_2 15 rfl rfl)
def dkwX0_rowOf_2 : List UInt8 := [27, 188, 8, 176, 27, 188, 9, 176, 27, 188, 10, 176]
abbrev dktX0_rowOf_2 : List UInt8 := dkwX0_rowOf_2 ++ []
def dkwX0_rowOf_1 : List UInt8 := [171, 0, 0, 0, 0, 0, 35, 0, 0, 0, 2, 0, 0, 0, 0, 0, 0, 0, 27, 0, 0, 0, 1, 0, 0, 0, 31]
abbrev dktX0_rowOf_1 : List UInt8 := dkwX0_rowOf_1 ++ dktX0_rowOf_2
def dkwX0_rowOf_0 : List UInt8 := [26]
abbrev dktX0_rowOf_0 : List UInt8 := dkwX0_rowOf_0 ++ dktX0_rowOf_1
theorem dksX0_rowOf_0 : cX0_rowOf.data.toList.drop 0 = dktX0_rowOf_0 := by decide +kernel
theorem dksX0_rowOf_1 : cX0_rowOf.data.toList.drop 1 = dktX0_rowOf_1 := dk_seg dksX0_rowOf_0 1 rfl rfl
theorem dksX0_rowOf_2 : cX0_rowOf.data.toList.drop 28 = dktX0_rowOf_2 := dk_seg dksX0_rowOf_1 27 rfl rfl
theorem dX0_rowOf_0 : decode cX0_rowOf 0 = .ok (.iload_n 0, 1) := dk_26 (dk_at dksX0_rowOf_0 0 rfl rfl)
theorem dX0_rowOf_1 : decode cX0_rowOf 1 = .ok (.lookupswitch 35 #[(0, 27), (1, 31)], 27) := by decide +kernel
theorem dX0_rowOf_28 : decode cX0_rowOf 28 = .ok (.iload_n 1, 1) := dk_27 (dk_at dksX0_rowOf_2 0 rfl rfl)
theorem dX0_rowOf_29 : decode cX0_rowOf 29 = .ok (.newarray .byte, 2) := dk_188_8 (dk_at dksX0_rowOf_2 1 rfl rfl)
theorem dX0_rowOf_31 : decode cX0_rowOf 31 = .ok (.areturn, 1) := dk_176 (dk_at dksX0_rowOf_2 3 rfl rfl)
theorem dX0_rowOf_32 : decode cX0_rowOf 32 = .ok (.iload_n 1, 1) := dk_27 (dk_at dksX0_rowOf_2 4 rfl rfl)
theorem dX0_rowOf_33 : decode cX0_rowOf 33 = .ok (.newarray .short, 2) := dk_188_9 (dk_at dksX0_rowOf_2 5 rfl rfl)
theorem dX0_rowOf_35 : decode cX0_rowOf 35 = .ok (.areturn, 1) := dk_176 (dk_at dksX0_rowOf_2 7 rfl rfl)
theorem dX0_rowOf_36 : decode cX0_rowOf 36 = .ok (.iload_n 1, 1) := dk_27 (dk_at dksX0_rowOf_2 8 rfl rfl)
theorem dX0_rowOf_37 : decode cX0_rowOf 37 = .ok (.newarray .int, 2) := dk_188_10 (dk_at dksX0_rowOf_2 9 rfl rfl)
theorem dX0_rowOf_39 : decode cX0_rowOf 39 = .ok (.areturn, 1) := dk_176 (dk_at dksX0_rowOf_2 11 rfl rfl)
def dkwX0_lose_2 : List UInt8 := [28, 172]
abbrev dktX0_lose_2 : List UInt8 := dkwX0_lose_2 ++ []
def dkwX0_lose_1 : List UInt8 := [182, 0, 126, 172, 42, 180, 0, 117, 27, 50, 182, 0, 129, 61, 42, 180, 0, 117, 27, 50, 1, 181, 0, 121]
abbrev dktX0_lose_1 : List UInt8 := dkwX0_lose_1 ++ dktX0_lose_2
def dkwX0_lose_0 : List UInt8 := [27, 184, 0, 114, 154, 0, 6, 16, 254, 172, 42, 180, 0, 117, 27, 50, 180, 0, 121, 199, 0, 9, 42, 4]
abbrev dktX0_lose_0 : List UInt8 := dkwX0_lose_0 ++ dktX0_lose_1
theorem dksX0_lose_0 : cX0_lose.data.toList.drop 0 = dktX0_lose_0 := by decide +kernel
theorem dksX0_lose_1 : cX0_lose.data.toList.drop 24 = dktX0_lose_1 := dk_seg dksX0_lose_0 24 rfl rfl
theorem dksX0_lose_2 : cX0_lose.data.toList.drop 48 = dktX0_lose_2 := dk_seg dksX0_lose_1 24 rfl rfl
theorem dX0_lose_0 : decode cX0_lose 0 = .ok (.iload_n 1, 1) := dk_27 (dk_at dksX0_lose_0 0 rfl rfl)
theorem dX0_lose_1 : decode cX0_lose 1 = .ok (.invokestatic 114, 3) := dk_184 0 114 (dk_at dksX0_lose_0 1 rfl rfl)
theorem dX0_lose_4 : decode cX0_lose 4 = .ok (.ifCond .ne 6, 3) := dk_154 0 6 (dk_at dksX0_lose_0 4 rfl rfl)
theorem dX0_lose_7 : decode cX0_lose 7 = .ok (.bipush (-2), 2) := dk_16 254 (dk_at dksX0_lose_0 7 rfl rfl)
theorem dX0_lose_9 : decode cX0_lose 9 = .ok (.ireturn, 1) := dk_172 (dk_at dksX0_lose_0 9 rfl rfl)
theorem dX0_lose_10 : decode cX0_lose 10 = .ok (.aload_n 0, 1) := dk_42 (dk_at dksX0_lose_0 10 rfl rfl)
theorem dX0_lose_11 : decode cX0_lose 11 = .ok (.getfield 117, 3) := dk_180 0 117 (dk_at dksX0_lose_0 11 rfl rfl)
theorem dX0_lose_14 : decode cX0_lose 14 = .ok (.iload_n 1, 1) := dk_27 (dk_at dksX0_lose_0 14 rfl rfl)
theorem dX0_lose_15 : decode cX0_lose 15 = .ok (.aaload, 1) := dk_50 (dk_at dksX0_lose_0 15 rfl rfl)
theorem dX0_lose_16 : decode cX0_lose 16 = .ok (.getfield 121, 3) := dk_180 0 121 (dk_at dksX0_lose_0 16 rfl rfl)
theorem dX0_lose_19 : decode cX0_lose 19 = .ok (.ifnonnull 9, 3) := dk_199 0 9 (dk_at dksX0_lose_0 19 rfl rfl)
theorem dX0_lose_22 : decode cX0_lose 22 = .ok (.aload_n 0, 1) := dk_42 (dk_at dksX0_lose_0 22 rfl rfl)
theorem dX0_lose_23 : decode cX0_lose 23 = .ok (.iconst 1, 1) := dk_4 (dk_at dksX0_lose_0 23 rfl rfl)
theorem dX0_lose_24 : decode cX0_lose 24 = .ok (.invokevirtual 126, 3) := dk_182 0 126 (dk_at dksX0_lose_1 0 rfl rfl)
theorem dX0_lose_27 : decode cX0_lose 27 = .ok (.ireturn, 1) := dk_172 (dk_at dksX0_lose_1 3 rfl rfl)
theorem dX0_lose_28 : decode cX0_lose 28 = .ok (.aload_n 0, 1) := dk_42 (dk_at dksX0_lose_1 4 rfl rfl)
theorem dX0_lose_29 : decode cX0_lose 29 = .ok (.getfield 117, 3) := dk_180 0 117 (dk_at dksX0_lose_1 5 rfl rfl)
theorem dX0_lose_32 : decode cX0_lose 32 = .ok (.iload_n 1, 1) := dk_27 (dk_at dksX0_lose_1 8 rfl rfl)
theorem dX0_lose_33 : decode cX0_lose 33 = .ok (.aaload, 1) := dk_50 (dk_at dksX0_lose_1 9 rfl rfl)
theorem dX0_lose_34 : decode cX0_lose 34 = .ok (.invokevirtual 129, 3) := dk_182 0 129 (dk_at dksX0_lose_1 10 rfl rfl)
theorem dX0_lose_37 : decode cX0_lose 37 = .ok (.istore_n 2, 1) := dk_61 (dk_at dksX0_lose_1 13 rfl rfl)
theorem dX0_lose_38 : decode cX0_lose 38 = .ok (.aload_n 0, 1) := dk_42 (dk_at dksX0_lose_1 14 rfl rfl)
theorem dX0_lose_39 : decode cX0_lose 39 = .ok (.getfield 117, 3) := dk_180 0 117 (dk_at dksX0_lose_1 15 rfl rfl)
theorem dX0_lose_42 : decode cX0_lose 42 = .ok (.iload_n 1, 1) := dk_27 (dk_at dksX0_lose_1 18 rfl rfl)
theorem dX0_lose_43 : decode cX0_lose 43 = .ok (.aaload, 1) := dk_50 (dk_at dksX0_lose_1 19 rfl rfl)
theorem dX0_lose_44 : decode cX0_lose 44 = .ok (.aconst_null, 1) := dk_1 (dk_at dksX0_lose_1 20 rfl rfl)
theorem dX0_lose_45 : decode cX0_lose 45 = .ok (.putfield 121, 3) := dk_181 0 121 (dk_at dksX0_lose_1 21 rfl rfl)
theorem dX0_lose_48 : decode cX0_lose 48 = .ok (.iload_n 2, 1) := dk_28 (dk_at dksX0_lose_2 0 rfl rfl)
theorem dX0_lose_49 : decode cX0_lose 49 = .ok (.ireturn, 1) := dk_172 (dk_at dksX0_lose_2 1 rfl rfl)
def dkwX0_lay_2 : List UInt8 := [6, 182, 0, 126, 172, 58, 5, 42, 5, 182, 0, 126, 172]
abbrev dktX0_lay_2 : List UInt8 := dkwX0_lay_2 ++ []
def dkwX0_lay_1 : List UInt8 := [50, 180, 0, 121, 28, 29, 21, 4, 184, 1, 75, 4, 172, 58, 5, 42, 4, 182, 0, 126, 172, 58, 5, 42]
abbrev dktX0_lay_1 : List UInt8 := dkwX0_lay_1 ++ dktX0_lay_2
def dkwX0_lay_0 : List UInt8 := [27, 184, 0, 114, 153, 0, 12, 28, 3, 5, 184, 0, 5, 154, 0, 6, 16, 254, 172, 42, 180, 0, 117, 27]
abbrev dktX0_lay_0 : List UInt8 := dkwX0_lay_0 ++ dktX0_lay_1
theorem dksX0_lay_0 : cX0_lay.data.toList.drop 0 = dktX0_lay_0 := by decide +kernel
theorem dksX0_lay_1 : cX0_lay.data.toList.drop 24 = dktX0_lay_1 := dk_seg dksX0_lay_0 24 rfl rfl
theorem dksX0_lay_2 : cX0_lay.data.toList.drop 48 = dktX0_lay_2 := dk_seg dksX0_lay_1 24 rfl rfl
theorem dX0_lay_0 : decode cX0_lay 0 = .ok (.iload_n 1, 1) := dk_27 (dk_at dksX0_lay_0 0 rfl rfl)
theorem dX0_lay_1 : decode cX0_lay 1 = .ok (.invokestatic 114, 3) := dk_184 0 114 (dk_at dksX0_lay_0 1 rfl rfl)
theorem dX0_lay_4 : decode cX0_lay 4 = .ok (.ifCond .eq 12, 3) := dk_153 0 12 (dk_at dksX0_lay_0 4 rfl rfl)
theorem dX0_lay_7 : decode cX0_lay 7 = .ok (.iload_n 2, 1) := dk_28 (dk_at dksX0_lay_0 7 rfl rfl)
theorem dX0_lay_8 : decode cX0_lay 8 = .ok (.iconst 0, 1) := dk_3 (dk_at dksX0_lay_0 8 rfl rfl)
theorem dX0_lay_9 : decode cX0_lay 9 = .ok (.iconst 2, 1) := dk_5 (dk_at dksX0_lay_0 9 rfl rfl)
theorem dX0_lay_10 : decode cX0_lay 10 = .ok (.invokestatic 5, 3) := dk_184 0 5 (dk_at dksX0_lay_0 10 rfl rfl)
theorem dX0_lay_13 : decode cX0_lay 13 = .ok (.ifCond .ne 6, 3) := dk_154 0 6 (dk_at dksX0_lay_0 13 rfl rfl)
theorem dX0_lay_16 : decode cX0_lay 16 = .ok (.bipush (-2), 2) := dk_16 254 (dk_at dksX0_lay_0 16 rfl rfl)
theorem dX0_lay_18 : decode cX0_lay 18 = .ok (.ireturn, 1) := dk_172 (dk_at dksX0_lay_0 18 rfl rfl)
theorem dX0_lay_19 : decode cX0_lay 19 = .ok (.aload_n 0, 1) := dk_42 (dk_at dksX0_lay_0 19 rfl rfl)
theorem dX0_lay_20 : decode cX0_lay 20 = .ok (.getfield 117, 3) := dk_180 0 117 (dk_at dksX0_lay_0 20 rfl rfl)
theorem dX0_lay_23 : decode cX0_lay 23 = .ok (.iload_n 1, 1) := dk_27 (dk_at dksX0_lay_0 23 rfl rfl)
theorem dX0_lay_24 : decode cX0_lay 24 = .ok (.aaload, 1) := dk_50 (dk_at dksX0_lay_1 0 rfl rfl)
theorem dX0_lay_25 : decode cX0_lay 25 = .ok (.getfield 121, 3) := dk_180 0 121 (dk_at dksX0_lay_1 1 rfl rfl)
theorem dX0_lay_28 : decode cX0_lay 28 = .ok (.iload_n 2, 1) := dk_28 (dk_at dksX0_lay_1 4 rfl rfl)
theorem dX0_lay_29 : decode cX0_lay 29 = .ok (.iload_n 3, 1) := dk_29 (dk_at dksX0_lay_1 5 rfl rfl)
theorem dX0_lay_30 : decode cX0_lay 30 = .ok (.iload 4, 2) := dk_21 4 (dk_at dksX0_lay_1 6 rfl rfl)
theorem dX0_lay_32 : decode cX0_lay 32 = .ok (.invokestatic 331, 3) := dk_184 1 75 (dk_at dksX0_lay_1 8 rfl rfl)
theorem dX0_lay_35 : decode cX0_lay 35 = .ok (.iconst 1, 1) := dk_4 (dk_at dksX0_lay_1 11 rfl rfl)
theorem dX0_lay_36 : decode cX0_lay 36 = .ok (.ireturn, 1) := dk_172 (dk_at dksX0_lay_1 12 rfl rfl)
theorem dX0_lay_37 : decode cX0_lay 37 = .ok (.astore 5, 2) := dk_58 5 (dk_at dksX0_lay_1 13 rfl rfl)
theorem dX0_lay_39 : decode cX0_lay 39 = .ok (.aload_n 0, 1) := dk_42 (dk_at dksX0_lay_1 15 rfl rfl)
theorem dX0_lay_40 : decode cX0_lay 40 = .ok (.iconst 1, 1) := dk_4 (dk_at dksX0_lay_1 16 rfl rfl)
theorem dX0_lay_41 : decode cX0_lay 41 = .ok (.invokevirtual 126, 3) := dk_182 0 126 (dk_at dksX0_lay_1 17 rfl rfl)
theorem dX0_lay_44 : decode cX0_lay 44 = .ok (.ireturn, 1) := dk_172 (dk_at dksX0_lay_1 20 rfl rfl)
theorem dX0_lay_45 : decode cX0_lay 45 = .ok (.astore 5, 2) := dk_58 5 (dk_at dksX0_lay_1 21 rfl rfl)
theorem dX0_lay_47 : decode cX0_lay 47 = .ok (.aload_n 0, 1) := dk_42 (dk_at dksX0_lay_1 23 rfl rfl)
theorem dX0_lay_48 : decode cX0_lay 48 = .ok (.iconst 3, 1) := dk_6 (dk_at dksX0_lay_2 0 rfl rfl)
theorem dX0_lay_49 : decode cX0_lay 49 = .ok (.invokevirtual 126, 3) := dk_182 0 126 (dk_at dksX0_lay_2 1 rfl rfl)
theorem dX0_lay_52 : decode cX0_lay 52 = .ok (.ireturn, 1) := dk_172 (dk_at dksX0_lay_2 4 rfl rfl)
theorem dX0_lay_53 : decode cX0_lay 53 = .ok (.astore 5, 2) := dk_58 5 (dk_at dksX0_lay_2 5 rfl rfl)
theorem dX0_lay_55 : decode cX0_lay 55 = .ok (.aload_n 0, 1) := dk_42 (dk_at dksX0_lay_2 7 rfl rfl)
theorem dX0_lay_56 : decode cX0_lay 56 = .ok (.iconst 2, 1) := dk_5 (dk_at dksX0_lay_2 8 rfl rfl)
theorem dX0_lay_57 : decode cX0_lay 57 = .ok (.invokevirtual 126, 3) := dk_182 0 126 (dk_at dksX0_lay_2 9 rfl rfl)
theorem dX0_lay_60 : decode cX0_lay 60 = .ok (.ireturn, 1) := dk_172 (dk_at dksX0_lay_2 12 rfl rfl)
def dkwX0_laid_3 : List UInt8 := [192, 1, 47, 28, 29, 79, 177]
abbrev dktX0_laid_3 : List UInt8 := dkwX0_laid_3 ++ []
def dkwX0_laid_2 : List UInt8 := [42, 192, 1, 71, 28, 29, 145, 84, 167, 0, 21, 42, 192, 1, 73, 28, 29, 147, 86, 167, 0, 10, 42]
abbrev dktX0_laid_2 : List UInt8 := dkwX0_laid_2 ++ dktX0_laid_3
def dkwX0_laid_1 : List UInt8 := [171, 0, 0, 0, 0, 0, 49, 0, 0, 0, 2, 0, 0, 0, 0, 0, 0, 0, 27, 0, 0, 0, 1, 0, 0, 0, 38]
abbrev dktX0_laid_1 : List UInt8 := dkwX0_laid_1 ++ dktX0_laid_2
def dkwX0_laid_0 : List UInt8 := [27]
abbrev dktX0_laid_0 : List UInt8 := dkwX0_laid_0 ++ dktX0_laid_1
theorem dksX0_laid_0 : cX0_laid.data.toList.drop 0 = dktX0_laid_0 := by decide +kernel
theorem dksX0_laid_1 : cX0_laid.data.toList.drop 1 = dktX0_laid_1 := dk_seg dksX0_laid_0 1 rfl rfl
theorem dksX0_laid_2 : cX0_laid.data.toList.drop 28 = dktX0_laid_2 := dk_seg dksX0_laid_1 27 rfl rfl
theorem dksX0_laid_3 : cX0_laid.data.toList.drop 51 = dktX0_laid_3 := dk_seg dksX0_laid_2 23 rfl rfl
theorem dX0_laid_0 : decode cX0_laid 0 = .ok (.iload_n 1, 1) := dk_27 (dk_at dksX0_laid_0 0 rfl rfl)
theorem dX0_laid_1 : decode cX0_laid 1 = .ok (.lookupswitch 49 #[(0, 27), (1, 38)], 27) := by decide +kernel
theorem dX0_laid_28 : decode cX0_laid 28 = .ok (.aload_n 0, 1) := dk_42 (dk_at dksX0_laid_2 0 rfl rfl)
theorem dX0_laid_29 : decode cX0_laid 29 = .ok (.checkcast 327, 3) := dk_192 1 71 (dk_at dksX0_laid_2 1 rfl rfl)
theorem dX0_laid_32 : decode cX0_laid 32 = .ok (.iload_n 2, 1) := dk_28 (dk_at dksX0_laid_2 4 rfl rfl)
theorem dX0_laid_33 : decode cX0_laid 33 = .ok (.iload_n 3, 1) := dk_29 (dk_at dksX0_laid_2 5 rfl rfl)
theorem dX0_laid_34 : decode cX0_laid 34 = .ok (.i2b, 1) := dk_145 (dk_at dksX0_laid_2 6 rfl rfl)
theorem dX0_laid_35 : decode cX0_laid 35 = .ok (.bastore, 1) := dk_84 (dk_at dksX0_laid_2 7 rfl rfl)
theorem dX0_laid_36 : decode cX0_laid 36 = .ok (.goto 21, 3) := dk_167 0 21 (dk_at dksX0_laid_2 8 rfl rfl)
theorem dX0_laid_39 : decode cX0_laid 39 = .ok (.aload_n 0, 1) := dk_42 (dk_at dksX0_laid_2 11 rfl rfl)
theorem dX0_laid_40 : decode cX0_laid 40 = .ok (.checkcast 329, 3) := dk_192 1 73 (dk_at dksX0_laid_2 12 rfl rfl)
theorem dX0_laid_43 : decode cX0_laid 43 = .ok (.iload_n 2, 1) := dk_28 (dk_at dksX0_laid_2 15 rfl rfl)
theorem dX0_laid_44 : decode cX0_laid 44 = .ok (.iload_n 3, 1) := dk_29 (dk_at dksX0_laid_2 16 rfl rfl)
theorem dX0_laid_45 : decode cX0_laid 45 = .ok (.i2s, 1) := dk_147 (dk_at dksX0_laid_2 17 rfl rfl)
theorem dX0_laid_46 : decode cX0_laid 46 = .ok (.sastore, 1) := dk_86 (dk_at dksX0_laid_2 18 rfl rfl)
theorem dX0_laid_47 : decode cX0_laid 47 = .ok (.goto 10, 3) := dk_167 0 10 (dk_at dksX0_laid_2 19 rfl rfl)
theorem dX0_laid_50 : decode cX0_laid 50 = .ok (.aload_n 0, 1) := dk_42 (dk_at dksX0_laid_2 22 rfl rfl)
theorem dX0_laid_51 : decode cX0_laid 51 = .ok (.checkcast 303, 3) := dk_192 1 47 (dk_at dksX0_laid_3 0 rfl rfl)
theorem dX0_laid_54 : decode cX0_laid 54 = .ok (.iload_n 2, 1) := dk_28 (dk_at dksX0_laid_3 3 rfl rfl)
theorem dX0_laid_55 : decode cX0_laid 55 = .ok (.iload_n 3, 1) := dk_29 (dk_at dksX0_laid_3 4 rfl rfl)
theorem dX0_laid_56 : decode cX0_laid 56 = .ok (.iastore, 1) := dk_79 (dk_at dksX0_laid_3 5 rfl rfl)
theorem dX0_laid_57 : decode cX0_laid 57 = .ok (.return_, 1) := dk_177 (dk_at dksX0_laid_3 6 rfl rfl)
def dkwX0_get_2 : List UInt8 := [6, 54, 4, 167, 0, 8, 58, 5, 5, 54, 4, 42, 21, 4, 181, 1, 59, 19, 1, 85, 172]
abbrev dktX0_get_2 : List UInt8 := dkwX0_get_2 ++ []
def dkwX0_get_1 : List UInt8 := [180, 0, 117, 27, 50, 180, 0, 121, 28, 29, 184, 1, 86, 172, 58, 5, 4, 54, 4, 167, 0, 16, 58, 5]
abbrev dktX0_get_1 : List UInt8 := dkwX0_get_1 ++ dktX0_get_2
def dkwX0_get_0 : List UInt8 := [27, 184, 0, 114, 153, 0, 12, 28, 3, 5, 184, 0, 5, 154, 0, 7, 19, 1, 85, 172, 3, 54, 4, 42]
abbrev dktX0_get_0 : List UInt8 := dkwX0_get_0 ++ dktX0_get_1
theorem dksX0_get_0 : cX0_get.data.toList.drop 0 = dktX0_get_0 := by decide +kernel
theorem dksX0_get_1 : cX0_get.data.toList.drop 24 = dktX0_get_1 := dk_seg dksX0_get_0 24 rfl rfl
theorem dksX0_get_2 : cX0_get.data.toList.drop 48 = dktX0_get_2 := dk_seg dksX0_get_1 24 rfl rfl
theorem dX0_get_0 : decode cX0_get 0 = .ok (.iload_n 1, 1) := dk_27 (dk_at dksX0_get_0 0 rfl rfl)
theorem dX0_get_1 : decode cX0_get 1 = .ok (.invokestatic 114, 3) := dk_184 0 114 (dk_at dksX0_get_0 1 rfl rfl)
theorem dX0_get_4 : decode cX0_get 4 = .ok (.ifCond .eq 12, 3) := dk_153 0 12 (dk_at dksX0_get_0 4 rfl rfl)
theorem dX0_get_7 : decode cX0_get 7 = .ok (.iload_n 2, 1) := dk_28 (dk_at dksX0_get_0 7 rfl rfl)
theorem dX0_get_8 : decode cX0_get 8 = .ok (.iconst 0, 1) := dk_3 (dk_at dksX0_get_0 8 rfl rfl)
theorem dX0_get_9 : decode cX0_get 9 = .ok (.iconst 2, 1) := dk_5 (dk_at dksX0_get_0 9 rfl rfl)
theorem dX0_get_10 : decode cX0_get 10 = .ok (.invokestatic 5, 3) := dk_184 0 5 (dk_at dksX0_get_0 10 rfl rfl)
theorem dX0_get_13 : decode cX0_get 13 = .ok (.ifCond .ne 7, 3) := dk_154 0 7 (dk_at dksX0_get_0 13 rfl rfl)
theorem dX0_get_16 : decode cX0_get 16 = .ok (.ldc_w 341, 3) := dk_19 1 85 (dk_at dksX0_get_0 16 rfl rfl)
theorem dX0_get_19 : decode cX0_get 19 = .ok (.ireturn, 1) := dk_172 (dk_at dksX0_get_0 19 rfl rfl)
theorem dX0_get_20 : decode cX0_get 20 = .ok (.iconst 0, 1) := dk_3 (dk_at dksX0_get_0 20 rfl rfl)
theorem dX0_get_21 : decode cX0_get 21 = .ok (.istore 4, 2) := dk_54 4 (dk_at dksX0_get_0 21 rfl rfl)
theorem dX0_get_23 : decode cX0_get 23 = .ok (.aload_n 0, 1) := dk_42 (dk_at dksX0_get_0 23 rfl rfl)
theorem dX0_get_24 : decode cX0_get 24 = .ok (.getfield 117, 3) := dk_180 0 117 (dk_at dksX0_get_1 0 rfl rfl)
theorem dX0_get_27 : decode cX0_get 27 = .ok (.iload_n 1, 1) := dk_27 (dk_at dksX0_get_1 3 rfl rfl)
theorem dX0_get_28 : decode cX0_get 28 = .ok (.aaload, 1) := dk_50 (dk_at dksX0_get_1 4 rfl rfl)
theorem dX0_get_29 : decode cX0_get 29 = .ok (.getfield 121, 3) := dk_180 0 121 (dk_at dksX0_get_1 5 rfl rfl)
theorem dX0_get_32 : decode cX0_get 32 = .ok (.iload_n 2, 1) := dk_28 (dk_at dksX0_get_1 8 rfl rfl)
theorem dX0_get_33 : decode cX0_get 33 = .ok (.iload_n 3, 1) := dk_29 (dk_at dksX0_get_1 9 rfl rfl)
theorem dX0_get_34 : decode cX0_get 34 = .ok (.invokestatic 342, 3) := dk_184 1 86 (dk_at dksX0_get_1 10 rfl rfl)
theorem dX0_get_37 : decode cX0_get 37 = .ok (.ireturn, 1) := dk_172 (dk_at dksX0_get_1 13 rfl rfl)
theorem dX0_get_38 : decode cX0_get 38 = .ok (.astore 5, 2) := dk_58 5 (dk_at dksX0_get_1 14 rfl rfl)
theorem dX0_get_40 : decode cX0_get 40 = .ok (.iconst 1, 1) := dk_4 (dk_at dksX0_get_1 16 rfl rfl)
theorem dX0_get_41 : decode cX0_get 41 = .ok (.istore 4, 2) := dk_54 4 (dk_at dksX0_get_1 17 rfl rfl)
theorem dX0_get_43 : decode cX0_get 43 = .ok (.goto 16, 3) := dk_167 0 16 (dk_at dksX0_get_1 19 rfl rfl)
theorem dX0_get_46 : decode cX0_get 46 = .ok (.astore 5, 2) := dk_58 5 (dk_at dksX0_get_1 22 rfl rfl)
theorem dX0_get_48 : decode cX0_get 48 = .ok (.iconst 3, 1) := dk_6 (dk_at dksX0_get_2 0 rfl rfl)
theorem dX0_get_49 : decode cX0_get 49 = .ok (.istore 4, 2) := dk_54 4 (dk_at dksX0_get_2 1 rfl rfl)
theorem dX0_get_51 : decode cX0_get 51 = .ok (.goto 8, 3) := dk_167 0 8 (dk_at dksX0_get_2 3 rfl rfl)
theorem dX0_get_54 : decode cX0_get 54 = .ok (.astore 5, 2) := dk_58 5 (dk_at dksX0_get_2 6 rfl rfl)
theorem dX0_get_56 : decode cX0_get 56 = .ok (.iconst 2, 1) := dk_5 (dk_at dksX0_get_2 8 rfl rfl)
theorem dX0_get_57 : decode cX0_get 57 = .ok (.istore 4, 2) := dk_54 4 (dk_at dksX0_get_2 9 rfl rfl)
theorem dX0_get_59 : decode cX0_get 59 = .ok (.aload_n 0, 1) := dk_42 (dk_at dksX0_get_2 11 rfl rfl)
theorem dX0_get_60 : decode cX0_get 60 = .ok (.iload 4, 2) := dk_21 4 (dk_at dksX0_get_2 12 rfl rfl)
theorem dX0_get_62 : decode cX0_get 62 = .ok (.putfield 315, 3) := dk_181 1 59 (dk_at dksX0_get_2 14 rfl rfl)
theorem dX0_get_65 : decode cX0_get 65 = .ok (.ldc_w 341, 3) := dk_19 1 85 (dk_at dksX0_get_2 17 rfl rfl)
theorem dX0_get_68 : decode cX0_get 68 = .ok (.ireturn, 1) := dk_172 (dk_at dksX0_get_2 20 rfl rfl)
def dkwX0_copy_4 : List UInt8 := [182, 0, 126, 172, 58, 8, 42, 5, 182, 0, 126, 172]
abbrev dktX0_copy_4 : List UInt8 := dkwX0_copy_4 ++ []
def dkwX0_copy_3 : List UInt8 := [180, 0, 121, 28, 25, 7, 180, 0, 121, 21, 4, 21, 5, 184, 1, 90, 4, 172, 58, 8, 42, 4]
abbrev dktX0_copy_3 : List UInt8 := dkwX0_copy_3 ++ dktX0_copy_4
def dkwX0_copy_2 : List UInt8 := [198, 0, 22, 25, 6, 180, 1, 68, 25, 7, 180, 1, 68, 159, 0, 9, 42, 7, 182, 0, 126, 172, 25, 6]
abbrev dktX0_copy_2 : List UInt8 := dkwX0_copy_2 ++ dktX0_copy_3
def dkwX0_copy_1 : List UInt8 := [58, 6, 42, 180, 0, 117, 29, 50, 58, 7, 25, 6, 180, 0, 121, 198, 0, 30, 25, 7, 180, 0, 121]
abbrev dktX0_copy_1 : List UInt8 := dkwX0_copy_1 ++ dktX0_copy_2
def dkwX0_copy_0 : List UInt8 := [27, 184, 0, 114, 153, 0, 10, 29, 184, 0, 114, 154, 0, 6, 16, 254, 172, 42, 180, 0, 117, 27, 50]
abbrev dktX0_copy_0 : List UInt8 := dkwX0_copy_0 ++ dktX0_copy_1
theorem dksX0_copy_0 : cX0_copy.data.toList.drop 0 = dktX0_copy_0 := by decide +kernel
theorem dksX0_copy_1 : cX0_copy.data.toList.drop 23 = dktX0_copy_1 := dk_seg dksX0_copy_0 23 rfl rfl
theorem dksX0_copy_2 : cX0_copy.data.toList.drop 46 = dktX0_copy_2 := dk_seg dksX0_copy_1 23 rfl rfl
theorem dksX0_copy_3 : cX0_copy.data.toList.drop 70 = dktX0_copy_3 := dk_seg dksX0_copy_2 24 rfl rfl
theorem dksX0_copy_4 : cX0_copy.data.toList.drop 92 = dktX0_copy_4 := dk_seg dksX0_copy_3 22 rfl rfl
theorem dX0_copy_0 : decode cX0_copy 0 = .ok (.iload_n 1, 1) := dk_27 (dk_at dksX0_copy_0 0 rfl rfl)
theorem dX0_copy_1 : decode cX0_copy 1 = .ok (.invokestatic 114, 3) := dk_184 0 114 (dk_at dksX0_copy_0 1 rfl rfl)
theorem dX0_copy_4 : decode cX0_copy 4 = .ok (.ifCond .eq 10, 3) := dk_153 0 10 (dk_at dksX0_copy_0 4 rfl rfl)
theorem dX0_copy_7 : decode cX0_copy 7 = .ok (.iload_n 3, 1) := dk_29 (dk_at dksX0_copy_0 7 rfl rfl)
theorem dX0_copy_8 : decode cX0_copy 8 = .ok (.invokestatic 114, 3) := dk_184 0 114 (dk_at dksX0_copy_0 8 rfl rfl)
theorem dX0_copy_11 : decode cX0_copy 11 = .ok (.ifCond .ne 6, 3) := dk_154 0 6 (dk_at dksX0_copy_0 11 rfl rfl)
theorem dX0_copy_14 : decode cX0_copy 14 = .ok (.bipush (-2), 2) := dk_16 254 (dk_at dksX0_copy_0 14 rfl rfl)
theorem dX0_copy_16 : decode cX0_copy 16 = .ok (.ireturn, 1) := dk_172 (dk_at dksX0_copy_0 16 rfl rfl)
theorem dX0_copy_17 : decode cX0_copy 17 = .ok (.aload_n 0, 1) := dk_42 (dk_at dksX0_copy_0 17 rfl rfl)
theorem dX0_copy_18 : decode cX0_copy 18 = .ok (.getfield 117, 3) := dk_180 0 117 (dk_at dksX0_copy_0 18 rfl rfl)
theorem dX0_copy_21 : decode cX0_copy 21 = .ok (.iload_n 1, 1) := dk_27 (dk_at dksX0_copy_0 21 rfl rfl)
theorem dX0_copy_22 : decode cX0_copy 22 = .ok (.aaload, 1) := dk_50 (dk_at dksX0_copy_0 22 rfl rfl)
theorem dX0_copy_23 : decode cX0_copy 23 = .ok (.astore 6, 2) := dk_58 6 (dk_at dksX0_copy_1 0 rfl rfl)
theorem dX0_copy_25 : decode cX0_copy 25 = .ok (.aload_n 0, 1) := dk_42 (dk_at dksX0_copy_1 2 rfl rfl)
theorem dX0_copy_26 : decode cX0_copy 26 = .ok (.getfield 117, 3) := dk_180 0 117 (dk_at dksX0_copy_1 3 rfl rfl)
theorem dX0_copy_29 : decode cX0_copy 29 = .ok (.iload_n 3, 1) := dk_29 (dk_at dksX0_copy_1 6 rfl rfl)
theorem dX0_copy_30 : decode cX0_copy 30 = .ok (.aaload, 1) := dk_50 (dk_at dksX0_copy_1 7 rfl rfl)
theorem dX0_copy_31 : decode cX0_copy 31 = .ok (.astore 7, 2) := dk_58 7 (dk_at dksX0_copy_1 8 rfl rfl)
theorem dX0_copy_33 : decode cX0_copy 33 = .ok (.aload 6, 2) := dk_25 6 (dk_at dksX0_copy_1 10 rfl rfl)
theorem dX0_copy_35 : decode cX0_copy 35 = .ok (.getfield 121, 3) := dk_180 0 121 (dk_at dksX0_copy_1 12 rfl rfl)
theorem dX0_copy_38 : decode cX0_copy 38 = .ok (.ifnull 30, 3) := dk_198 0 30 (dk_at dksX0_copy_1 15 rfl rfl)
theorem dX0_copy_41 : decode cX0_copy 41 = .ok (.aload 7, 2) := dk_25 7 (dk_at dksX0_copy_1 18 rfl rfl)
theorem dX0_copy_43 : decode cX0_copy 43 = .ok (.getfield 121, 3) := dk_180 0 121 (dk_at dksX0_copy_1 20 rfl rfl)
theorem dX0_copy_46 : decode cX0_copy 46 = .ok (.ifnull 22, 3) := dk_198 0 22 (dk_at dksX0_copy_2 0 rfl rfl)
theorem dX0_copy_49 : decode cX0_copy 49 = .ok (.aload 6, 2) := dk_25 6 (dk_at dksX0_copy_2 3 rfl rfl)
theorem dX0_copy_51 : decode cX0_copy 51 = .ok (.getfield 324, 3) := dk_180 1 68 (dk_at dksX0_copy_2 5 rfl rfl)
theorem dX0_copy_54 : decode cX0_copy 54 = .ok (.aload 7, 2) := dk_25 7 (dk_at dksX0_copy_2 8 rfl rfl)
theorem dX0_copy_56 : decode cX0_copy 56 = .ok (.getfield 324, 3) := dk_180 1 68 (dk_at dksX0_copy_2 10 rfl rfl)
theorem dX0_copy_59 : decode cX0_copy 59 = .ok (.if_icmp .eq 9, 3) := dk_159 0 9 (dk_at dksX0_copy_2 13 rfl rfl)
theorem dX0_copy_62 : decode cX0_copy 62 = .ok (.aload_n 0, 1) := dk_42 (dk_at dksX0_copy_2 16 rfl rfl)
theorem dX0_copy_63 : decode cX0_copy 63 = .ok (.iconst 4, 1) := dk_7 (dk_at dksX0_copy_2 17 rfl rfl)
theorem dX0_copy_64 : decode cX0_copy 64 = .ok (.invokevirtual 126, 3) := dk_182 0 126 (dk_at dksX0_copy_2 18 rfl rfl)
theorem dX0_copy_67 : decode cX0_copy 67 = .ok (.ireturn, 1) := dk_172 (dk_at dksX0_copy_2 21 rfl rfl)
theorem dX0_copy_68 : decode cX0_copy 68 = .ok (.aload 6, 2) := dk_25 6 (dk_at dksX0_copy_2 22 rfl rfl)
theorem dX0_copy_70 : decode cX0_copy 70 = .ok (.getfield 121, 3) := dk_180 0 121 (dk_at dksX0_copy_3 0 rfl rfl)
theorem dX0_copy_73 : decode cX0_copy 73 = .ok (.iload_n 2, 1) := dk_28 (dk_at dksX0_copy_3 3 rfl rfl)
theorem dX0_copy_74 : decode cX0_copy 74 = .ok (.aload 7, 2) := dk_25 7 (dk_at dksX0_copy_3 4 rfl rfl)
theorem dX0_copy_76 : decode cX0_copy 76 = .ok (.getfield 121, 3) := dk_180 0 121 (dk_at dksX0_copy_3 6 rfl rfl)
theorem dX0_copy_79 : decode cX0_copy 79 = .ok (.iload 4, 2) := dk_21 4 (dk_at dksX0_copy_3 9 rfl rfl)
theorem dX0_copy_81 : decode cX0_copy 81 = .ok (.iload 5, 2) := dk_21 5 (dk_at dksX0_copy_3 11 rfl rfl)
theorem dX0_copy_83 : decode cX0_copy 83 = .ok (.invokestatic 346, 3) := dk_184 1 90 (dk_at dksX0_copy_3 13 rfl rfl)
theorem dX0_copy_86 : decode cX0_copy 86 = .ok (.iconst 1, 1) := dk_4 (dk_at dksX0_copy_3 16 rfl rfl)
theorem dX0_copy_87 : decode cX0_copy 87 = .ok (.ireturn, 1) := dk_172 (dk_at dksX0_copy_3 17 rfl rfl)
theorem dX0_copy_88 : decode cX0_copy 88 = .ok (.astore 8, 2) := dk_58 8 (dk_at dksX0_copy_3 18 rfl rfl)
theorem dX0_copy_90 : decode cX0_copy 90 = .ok (.aload_n 0, 1) := dk_42 (dk_at dksX0_copy_3 20 rfl rfl)
theorem dX0_copy_91 : decode cX0_copy 91 = .ok (.iconst 1, 1) := dk_4 (dk_at dksX0_copy_3 21 rfl rfl)
theorem dX0_copy_92 : decode cX0_copy 92 = .ok (.invokevirtual 126, 3) := dk_182 0 126 (dk_at dksX0_copy_4 0 rfl rfl)
theorem dX0_copy_95 : decode cX0_copy 95 = .ok (.ireturn, 1) := dk_172 (dk_at dksX0_copy_4 3 rfl rfl)
theorem dX0_copy_96 : decode cX0_copy 96 = .ok (.astore 8, 2) := dk_58 8 (dk_at dksX0_copy_4 4 rfl rfl)
theorem dX0_copy_98 : decode cX0_copy 98 = .ok (.aload_n 0, 1) := dk_42 (dk_at dksX0_copy_4 6 rfl rfl)
theorem dX0_copy_99 : decode cX0_copy 99 = .ok (.iconst 2, 1) := dk_5 (dk_at dksX0_copy_4 7 rfl rfl)
theorem dX0_copy_100 : decode cX0_copy 100 = .ok (.invokevirtual 126, 3) := dk_182 0 126 (dk_at dksX0_copy_4 8 rfl rfl)
theorem dX0_copy_103 : decode cX0_copy 103 = .ok (.ireturn, 1) := dk_172 (dk_at dksX0_copy_4 11 rfl rfl)
def dkwX0_write_4 : List UInt8 := [180, 0, 141, 28, 50, 180, 0, 83, 21, 6, 46, 184, 1, 75, 132, 6, 1, 167, 255, 219, 21, 5, 172]
abbrev dktX0_write_4 : List UInt8 := dkwX0_write_4 ++ []
def dkwX0_write_3 : List UInt8 := [54, 6, 21, 6, 21, 5, 162, 0, 36, 25, 4, 180, 0, 121, 25, 4, 180, 1, 68, 21, 6, 42]
abbrev dktX0_write_3 : List UInt8 := dkwX0_write_3 ++ dktX0_write_4
def dkwX0_write_2 : List UInt8 := [27, 182, 0, 197, 42, 180, 0, 141, 28, 50, 180, 0, 37, 25, 4, 182, 0, 129, 184, 0, 176, 54, 5, 3]
abbrev dktX0_write_2 : List UInt8 := dkwX0_write_2 ++ dktX0_write_3
def dkwX0_write_1 : List UInt8 := [172, 42, 180, 0, 117, 29, 50, 58, 4, 25, 4, 180, 0, 121, 199, 0, 9, 42, 4, 182, 0, 126, 172, 42]
abbrev dktX0_write_1 : List UInt8 := dkwX0_write_1 ++ dktX0_write_2
def dkwX0_write_0 : List UInt8 := [27, 184, 0, 102, 153, 0, 18, 42, 28, 182, 0, 86, 153, 0, 10, 29, 184, 0, 114, 154, 0, 6, 16, 254]
abbrev dktX0_write_0 : List UInt8 := dkwX0_write_0 ++ dktX0_write_1
theorem dksX0_write_0 : cX0_write.data.toList.drop 0 = dktX0_write_0 := by decide +kernel
theorem dksX0_write_1 : cX0_write.data.toList.drop 24 = dktX0_write_1 := dk_seg dksX0_write_0 24 rfl rfl
theorem dksX0_write_2 : cX0_write.data.toList.drop 48 = dktX0_write_2 := dk_seg dksX0_write_1 24 rfl rfl
theorem dksX0_write_3 : cX0_write.data.toList.drop 72 = dktX0_write_3 := dk_seg dksX0_write_2 24 rfl rfl
theorem dksX0_write_4 : cX0_write.data.toList.drop 94 = dktX0_write_4 := dk_seg dksX0_write_3 22 rfl rfl
theorem dX0_write_0 : decode cX0_write 0 = .ok (.iload_n 1, 1) := dk_27 (dk_at dksX0_write_0 0 rfl rfl)
theorem dX0_write_1 : decode cX0_write 1 = .ok (.invokestatic 102, 3) := dk_184 0 102 (dk_at dksX0_write_0 1 rfl rfl)
theorem dX0_write_4 : decode cX0_write 4 = .ok (.ifCond .eq 18, 3) := dk_153 0 18 (dk_at dksX0_write_0 4 rfl rfl)
theorem dX0_write_7 : decode cX0_write 7 = .ok (.aload_n 0, 1) := dk_42 (dk_at dksX0_write_0 7 rfl rfl)
theorem dX0_write_8 : decode cX0_write 8 = .ok (.iload_n 2, 1) := dk_28 (dk_at dksX0_write_0 8 rfl rfl)
theorem dX0_write_9 : decode cX0_write 9 = .ok (.invokevirtual 86, 3) := dk_182 0 86 (dk_at dksX0_write_0 9 rfl rfl)
theorem dX0_write_12 : decode cX0_write 12 = .ok (.ifCond .eq 10, 3) := dk_153 0 10 (dk_at dksX0_write_0 12 rfl rfl)
theorem dX0_write_15 : decode cX0_write 15 = .ok (.iload_n 3, 1) := dk_29 (dk_at dksX0_write_0 15 rfl rfl)
theorem dX0_write_16 : decode cX0_write 16 = .ok (.invokestatic 114, 3) := dk_184 0 114 (dk_at dksX0_write_0 16 rfl rfl)
theorem dX0_write_19 : decode cX0_write 19 = .ok (.ifCond .ne 6, 3) := dk_154 0 6 (dk_at dksX0_write_0 19 rfl rfl)
theorem dX0_write_22 : decode cX0_write 22 = .ok (.bipush (-2), 2) := dk_16 254 (dk_at dksX0_write_0 22 rfl rfl)
theorem dX0_write_24 : decode cX0_write 24 = .ok (.ireturn, 1) := dk_172 (dk_at dksX0_write_1 0 rfl rfl)
theorem dX0_write_25 : decode cX0_write 25 = .ok (.aload_n 0, 1) := dk_42 (dk_at dksX0_write_1 1 rfl rfl)
theorem dX0_write_26 : decode cX0_write 26 = .ok (.getfield 117, 3) := dk_180 0 117 (dk_at dksX0_write_1 2 rfl rfl)
theorem dX0_write_29 : decode cX0_write 29 = .ok (.iload_n 3, 1) := dk_29 (dk_at dksX0_write_1 5 rfl rfl)
theorem dX0_write_30 : decode cX0_write 30 = .ok (.aaload, 1) := dk_50 (dk_at dksX0_write_1 6 rfl rfl)
theorem dX0_write_31 : decode cX0_write 31 = .ok (.astore 4, 2) := dk_58 4 (dk_at dksX0_write_1 7 rfl rfl)
theorem dX0_write_33 : decode cX0_write 33 = .ok (.aload 4, 2) := dk_25 4 (dk_at dksX0_write_1 9 rfl rfl)
theorem dX0_write_35 : decode cX0_write 35 = .ok (.getfield 121, 3) := dk_180 0 121 (dk_at dksX0_write_1 11 rfl rfl)
theorem dX0_write_38 : decode cX0_write 38 = .ok (.ifnonnull 9, 3) := dk_199 0 9 (dk_at dksX0_write_1 14 rfl rfl)
theorem dX0_write_41 : decode cX0_write 41 = .ok (.aload_n 0, 1) := dk_42 (dk_at dksX0_write_1 17 rfl rfl)
theorem dX0_write_42 : decode cX0_write 42 = .ok (.iconst 1, 1) := dk_4 (dk_at dksX0_write_1 18 rfl rfl)
theorem dX0_write_43 : decode cX0_write 43 = .ok (.invokevirtual 126, 3) := dk_182 0 126 (dk_at dksX0_write_1 19 rfl rfl)
theorem dX0_write_46 : decode cX0_write 46 = .ok (.ireturn, 1) := dk_172 (dk_at dksX0_write_1 22 rfl rfl)
theorem dX0_write_47 : decode cX0_write 47 = .ok (.aload_n 0, 1) := dk_42 (dk_at dksX0_write_1 23 rfl rfl)
theorem dX0_write_48 : decode cX0_write 48 = .ok (.iload_n 1, 1) := dk_27 (dk_at dksX0_write_2 0 rfl rfl)
theorem dX0_write_49 : decode cX0_write 49 = .ok (.invokevirtual 197, 3) := dk_182 0 197 (dk_at dksX0_write_2 1 rfl rfl)
theorem dX0_write_52 : decode cX0_write 52 = .ok (.aload_n 0, 1) := dk_42 (dk_at dksX0_write_2 4 rfl rfl)
theorem dX0_write_53 : decode cX0_write 53 = .ok (.getfield 141, 3) := dk_180 0 141 (dk_at dksX0_write_2 5 rfl rfl)
theorem dX0_write_56 : decode cX0_write 56 = .ok (.iload_n 2, 1) := dk_28 (dk_at dksX0_write_2 8 rfl rfl)
theorem dX0_write_57 : decode cX0_write 57 = .ok (.aaload, 1) := dk_50 (dk_at dksX0_write_2 9 rfl rfl)
theorem dX0_write_58 : decode cX0_write 58 = .ok (.getfield 37, 3) := dk_180 0 37 (dk_at dksX0_write_2 10 rfl rfl)
theorem dX0_write_61 : decode cX0_write 61 = .ok (.aload 4, 2) := dk_25 4 (dk_at dksX0_write_2 13 rfl rfl)
theorem dX0_write_63 : decode cX0_write 63 = .ok (.invokevirtual 129, 3) := dk_182 0 129 (dk_at dksX0_write_2 15 rfl rfl)
theorem dX0_write_66 : decode cX0_write 66 = .ok (.invokestatic 176, 3) := dk_184 0 176 (dk_at dksX0_write_2 18 rfl rfl)
theorem dX0_write_69 : decode cX0_write 69 = .ok (.istore 5, 2) := dk_54 5 (dk_at dksX0_write_2 21 rfl rfl)
theorem dX0_write_71 : decode cX0_write 71 = .ok (.iconst 0, 1) := dk_3 (dk_at dksX0_write_2 23 rfl rfl)
theorem dX0_write_72 : decode cX0_write 72 = .ok (.istore 6, 2) := dk_54 6 (dk_at dksX0_write_3 0 rfl rfl)
theorem dX0_write_74 : decode cX0_write 74 = .ok (.iload 6, 2) := dk_21 6 (dk_at dksX0_write_3 2 rfl rfl)
theorem dX0_write_76 : decode cX0_write 76 = .ok (.iload 5, 2) := dk_21 5 (dk_at dksX0_write_3 4 rfl rfl)
theorem dX0_write_78 : decode cX0_write 78 = .ok (.if_icmp .ge 36, 3) := dk_162 0 36 (dk_at dksX0_write_3 6 rfl rfl)
theorem dX0_write_81 : decode cX0_write 81 = .ok (.aload 4, 2) := dk_25 4 (dk_at dksX0_write_3 9 rfl rfl)
theorem dX0_write_83 : decode cX0_write 83 = .ok (.getfield 121, 3) := dk_180 0 121 (dk_at dksX0_write_3 11 rfl rfl)
theorem dX0_write_86 : decode cX0_write 86 = .ok (.aload 4, 2) := dk_25 4 (dk_at dksX0_write_3 14 rfl rfl)
theorem dX0_write_88 : decode cX0_write 88 = .ok (.getfield 324, 3) := dk_180 1 68 (dk_at dksX0_write_3 16 rfl rfl)
theorem dX0_write_91 : decode cX0_write 91 = .ok (.iload 6, 2) := dk_21 6 (dk_at dksX0_write_3 19 rfl rfl)
theorem dX0_write_93 : decode cX0_write 93 = .ok (.aload_n 0, 1) := dk_42 (dk_at dksX0_write_3 21 rfl rfl)
theorem dX0_write_94 : decode cX0_write 94 = .ok (.getfield 141, 3) := dk_180 0 141 (dk_at dksX0_write_4 0 rfl rfl)
theorem dX0_write_97 : decode cX0_write 97 = .ok (.iload_n 2, 1) := dk_28 (dk_at dksX0_write_4 3 rfl rfl)
theorem dX0_write_98 : decode cX0_write 98 = .ok (.aaload, 1) := dk_50 (dk_at dksX0_write_4 4 rfl rfl)
theorem dX0_write_99 : decode cX0_write 99 = .ok (.getfield 83, 3) := dk_180 0 83 (dk_at dksX0_write_4 5 rfl rfl)
theorem dX0_write_102 : decode cX0_write 102 = .ok (.iload 6, 2) := dk_21 6 (dk_at dksX0_write_4 8 rfl rfl)
theorem dX0_write_104 : decode cX0_write 104 = .ok (.iaload, 1) := dk_46 (dk_at dksX0_write_4 10 rfl rfl)
theorem dX0_write_105 : decode cX0_write 105 = .ok (.invokestatic 331, 3) := dk_184 1 75 (dk_at dksX0_write_4 11 rfl rfl)
theorem dX0_write_108 : decode cX0_write 108 = .ok (.iinc 6 1, 3) := dk_132 6 1 (dk_at dksX0_write_4 14 rfl rfl)
theorem dX0_write_111 : decode cX0_write 111 = .ok (.goto (-37), 3) := dk_167 255 219 (dk_at dksX0_write_4 17 rfl rfl)
theorem dX0_write_114 : decode cX0_write 114 = .ok (.iload 5, 2) := dk_21 5 (dk_at dksX0_write_4 20 rfl rfl)
theorem dX0_write_116 : decode cX0_write 116 = .ok (.ireturn, 1) := dk_172 (dk_at dksX0_write_4 22 rfl rfl)
def dkwX0_count_3 : List UInt8 := [172, 42, 180, 1, 59, 172, 16, 254, 172]
abbrev dktX0_count_3 : List UInt8 := dkwX0_count_3 ++ []
def dkwX0_count_2 : List UInt8 := [42, 27, 182, 1, 98, 172, 42, 180, 0, 13, 27, 5, 100, 46, 172, 42, 180, 0, 108, 172, 42, 180, 0, 138]
abbrev dktX0_count_2 : List UInt8 := dkwX0_count_2 ++ dktX0_count_3
def dkwX0_count_1 : List UInt8 := [170, 0, 0, 0, 0, 0, 81, 0, 0, 0, 0, 0, 0, 0, 8, 0, 0, 0, 51, 0, 0, 0, 51, 0, 0, 0, 57, 0, 0, 0, 57, 0, 0, 0, 66, 0, 0, 0, 51, 0, 0, 0, 71, 0, 0, 0, 51, 0, 0, 0, 76]
abbrev dktX0_count_1 : List UInt8 := dkwX0_count_1 ++ dktX0_count_2
def dkwX0_count_0 : List UInt8 := [27]
abbrev dktX0_count_0 : List UInt8 := dkwX0_count_0 ++ dktX0_count_1
theorem dksX0_count_0 : cX0_count.data.toList.drop 0 = dktX0_count_0 := by decide +kernel
theorem dksX0_count_1 : cX0_count.data.toList.drop 1 = dktX0_count_1 := dk_seg dksX0_count_0 1 rfl rfl
theorem dksX0_count_2 : cX0_count.data.toList.drop 52 = dktX0_count_2 := dk_seg dksX0_count_1 51 rfl rfl
theorem dksX0_count_3 : cX0_count.data.toList.drop 76 = dktX0_count_3 := dk_seg dksX0_count_2 24 rfl rfl
theorem dX0_count_0 : decode cX0_count 0 = .ok (.iload_n 1, 1) := dk_27 (dk_at dksX0_count_0 0 rfl rfl)
theorem dX0_count_1 : decode cX0_count 1 = .ok (.tableswitch 81 0 8 #[51, 51, 57, 57, 66, 51, 71, 51, 76], 51) := by decide +kernel
theorem dX0_count_52 : decode cX0_count 52 = .ok (.aload_n 0, 1) := dk_42 (dk_at dksX0_count_2 0 rfl rfl)
theorem dX0_count_53 : decode cX0_count 53 = .ok (.iload_n 1, 1) := dk_27 (dk_at dksX0_count_2 1 rfl rfl)
theorem dX0_count_54 : decode cX0_count 54 = .ok (.invokevirtual 354, 3) := dk_182 1 98 (dk_at dksX0_count_2 2 rfl rfl)
theorem dX0_count_57 : decode cX0_count 57 = .ok (.ireturn, 1) := dk_172 (dk_at dksX0_count_2 5 rfl rfl)
theorem dX0_count_58 : decode cX0_count 58 = .ok (.aload_n 0, 1) := dk_42 (dk_at dksX0_count_2 6 rfl rfl)
theorem dX0_count_59 : decode cX0_count 59 = .ok (.getfield 13, 3) := dk_180 0 13 (dk_at dksX0_count_2 7 rfl rfl)
theorem dX0_count_62 : decode cX0_count 62 = .ok (.iload_n 1, 1) := dk_27 (dk_at dksX0_count_2 10 rfl rfl)
theorem dX0_count_63 : decode cX0_count 63 = .ok (.iconst 2, 1) := dk_5 (dk_at dksX0_count_2 11 rfl rfl)
theorem dX0_count_64 : decode cX0_count 64 = .ok (.isub, 1) := dk_100 (dk_at dksX0_count_2 12 rfl rfl)
theorem dX0_count_65 : decode cX0_count 65 = .ok (.iaload, 1) := dk_46 (dk_at dksX0_count_2 13 rfl rfl)
theorem dX0_count_66 : decode cX0_count 66 = .ok (.ireturn, 1) := dk_172 (dk_at dksX0_count_2 14 rfl rfl)
theorem dX0_count_67 : decode cX0_count 67 = .ok (.aload_n 0, 1) := dk_42 (dk_at dksX0_count_2 15 rfl rfl)
theorem dX0_count_68 : decode cX0_count 68 = .ok (.getfield 108, 3) := dk_180 0 108 (dk_at dksX0_count_2 16 rfl rfl)
theorem dX0_count_71 : decode cX0_count 71 = .ok (.ireturn, 1) := dk_172 (dk_at dksX0_count_2 19 rfl rfl)
theorem dX0_count_72 : decode cX0_count 72 = .ok (.aload_n 0, 1) := dk_42 (dk_at dksX0_count_2 20 rfl rfl)
theorem dX0_count_73 : decode cX0_count 73 = .ok (.getfield 138, 3) := dk_180 0 138 (dk_at dksX0_count_2 21 rfl rfl)
theorem dX0_count_76 : decode cX0_count 76 = .ok (.ireturn, 1) := dk_172 (dk_at dksX0_count_3 0 rfl rfl)
theorem dX0_count_77 : decode cX0_count 77 = .ok (.aload_n 0, 1) := dk_42 (dk_at dksX0_count_3 1 rfl rfl)
theorem dX0_count_78 : decode cX0_count 78 = .ok (.getfield 315, 3) := dk_180 1 59 (dk_at dksX0_count_3 2 rfl rfl)
theorem dX0_count_81 : decode cX0_count 81 = .ok (.ireturn, 1) := dk_172 (dk_at dksX0_count_3 5 rfl rfl)
theorem dX0_count_82 : decode cX0_count 82 = .ok (.bipush (-2), 2) := dk_16 254 (dk_at dksX0_count_3 6 rfl rfl)
theorem dX0_count_84 : decode cX0_count 84 = .ok (.ireturn, 1) := dk_172 (dk_at dksX0_count_3 8 rfl rfl)
def dkwX0_sumOf_4 : List UInt8 := [180, 0, 46, 167, 0, 4, 28, 172]
abbrev dktX0_sumOf_4 : List UInt8 := dkwX0_sumOf_4 ++ []
def dkwX0_sumOf_3 : List UInt8 := [61, 132, 3, 1, 167, 255, 227, 27, 154, 0, 10, 42, 180, 0, 25, 167, 0, 16, 27, 4, 160, 0, 10, 42]
abbrev dktX0_sumOf_3 : List UInt8 := dkwX0_sumOf_3 ++ dktX0_sumOf_4
def dkwX0_sumOf_2 : List UInt8 := [42, 180, 0, 25, 162, 0, 27, 27, 16, 7, 160, 0, 21, 28, 42, 180, 0, 33, 29, 50, 180, 0, 37, 96]
abbrev dktX0_sumOf_2 : List UInt8 := dkwX0_sumOf_2 ++ dktX0_sumOf_3
def dkwX0_sumOf_1 : List UInt8 := [180, 0, 151, 29, 51, 153, 0, 7, 4, 167, 0, 4, 3, 96, 61, 132, 3, 1, 167, 255, 225, 3, 62, 29]
abbrev dktX0_sumOf_1 : List UInt8 := dkwX0_sumOf_1 ++ dktX0_sumOf_2
def dkwX0_sumOf_0 : List UInt8 := [42, 16, 39, 182, 0, 197, 3, 61, 3, 62, 29, 16, 12, 162, 0, 31, 27, 8, 160, 0, 26, 28, 42]
abbrev dktX0_sumOf_0 : List UInt8 := dkwX0_sumOf_0 ++ dktX0_sumOf_1
theorem dksX0_sumOf_0 : cX0_sumOf.data.toList.drop 0 = dktX0_sumOf_0 := by decide +kernel
theorem dksX0_sumOf_1 : cX0_sumOf.data.toList.drop 23 = dktX0_sumOf_1 := dk_seg dksX0_sumOf_0 23 rfl rfl
theorem dksX0_sumOf_2 : cX0_sumOf.data.toList.drop 47 = dktX0_sumOf_2 := dk_seg dksX0_sumOf_1 24 rfl rfl
theorem dksX0_sumOf_3 : cX0_sumOf.data.toList.drop 71 = dktX0_sumOf_3 := dk_seg dksX0_sumOf_2 24 rfl rfl
theorem dksX0_sumOf_4 : cX0_sumOf.data.toList.drop 95 = dktX0_sumOf_4 := dk_seg dksX0_sumOf_3 24 rfl rfl
theorem dX0_sumOf_0 : decode cX0_sumOf 0 = .ok (.aload_n 0, 1) := dk_42 (dk_at dksX0_sumOf_0 0 rfl rfl)
theorem dX0_sumOf_1 : decode cX0_sumOf 1 = .ok (.bipush 39, 2) := dk_16 39 (dk_at dksX0_sumOf_0 1 rfl rfl)
theorem dX0_sumOf_3 : decode cX0_sumOf 3 = .ok (.invokevirtual 197, 3) := dk_182 0 197 (dk_at dksX0_sumOf_0 3 rfl rfl)
theorem dX0_sumOf_6 : decode cX0_sumOf 6 = .ok (.iconst 0, 1) := dk_3 (dk_at dksX0_sumOf_0 6 rfl rfl)
theorem dX0_sumOf_7 : decode cX0_sumOf 7 = .ok (.istore_n 2, 1) := dk_61 (dk_at dksX0_sumOf_0 7 rfl rfl)
theorem dX0_sumOf_8 : decode cX0_sumOf 8 = .ok (.iconst 0, 1) := dk_3 (dk_at dksX0_sumOf_0 8 rfl rfl)
theorem dX0_sumOf_9 : decode cX0_sumOf 9 = .ok (.istore_n 3, 1) := dk_62 (dk_at dksX0_sumOf_0 9 rfl rfl)
theorem dX0_sumOf_10 : decode cX0_sumOf 10 = .ok (.iload_n 3, 1) := dk_29 (dk_at dksX0_sumOf_0 10 rfl rfl)
theorem dX0_sumOf_11 : decode cX0_sumOf 11 = .ok (.bipush 12, 2) := dk_16 12 (dk_at dksX0_sumOf_0 11 rfl rfl)
theorem dX0_sumOf_13 : decode cX0_sumOf 13 = .ok (.if_icmp .ge 31, 3) := dk_162 0 31 (dk_at dksX0_sumOf_0 13 rfl rfl)
theorem dX0_sumOf_16 : decode cX0_sumOf 16 = .ok (.iload_n 1, 1) := dk_27 (dk_at dksX0_sumOf_0 16 rfl rfl)
theorem dX0_sumOf_17 : decode cX0_sumOf 17 = .ok (.iconst 5, 1) := dk_8 (dk_at dksX0_sumOf_0 17 rfl rfl)
theorem dX0_sumOf_18 : decode cX0_sumOf 18 = .ok (.if_icmp .ne 26, 3) := dk_160 0 26 (dk_at dksX0_sumOf_0 18 rfl rfl)
theorem dX0_sumOf_21 : decode cX0_sumOf 21 = .ok (.iload_n 2, 1) := dk_28 (dk_at dksX0_sumOf_0 21 rfl rfl)
theorem dX0_sumOf_22 : decode cX0_sumOf 22 = .ok (.aload_n 0, 1) := dk_42 (dk_at dksX0_sumOf_0 22 rfl rfl)
theorem dX0_sumOf_23 : decode cX0_sumOf 23 = .ok (.getfield 151, 3) := dk_180 0 151 (dk_at dksX0_sumOf_1 0 rfl rfl)
theorem dX0_sumOf_26 : decode cX0_sumOf 26 = .ok (.iload_n 3, 1) := dk_29 (dk_at dksX0_sumOf_1 3 rfl rfl)
theorem dX0_sumOf_27 : decode cX0_sumOf 27 = .ok (.baload, 1) := dk_51 (dk_at dksX0_sumOf_1 4 rfl rfl)
theorem dX0_sumOf_28 : decode cX0_sumOf 28 = .ok (.ifCond .eq 7, 3) := dk_153 0 7 (dk_at dksX0_sumOf_1 5 rfl rfl)
theorem dX0_sumOf_31 : decode cX0_sumOf 31 = .ok (.iconst 1, 1) := dk_4 (dk_at dksX0_sumOf_1 8 rfl rfl)
theorem dX0_sumOf_32 : decode cX0_sumOf 32 = .ok (.goto 4, 3) := dk_167 0 4 (dk_at dksX0_sumOf_1 9 rfl rfl)
theorem dX0_sumOf_35 : decode cX0_sumOf 35 = .ok (.iconst 0, 1) := dk_3 (dk_at dksX0_sumOf_1 12 rfl rfl)
theorem dX0_sumOf_36 : decode cX0_sumOf 36 = .ok (.iadd, 1) := dk_96 (dk_at dksX0_sumOf_1 13 rfl rfl)
theorem dX0_sumOf_37 : decode cX0_sumOf 37 = .ok (.istore_n 2, 1) := dk_61 (dk_at dksX0_sumOf_1 14 rfl rfl)
theorem dX0_sumOf_38 : decode cX0_sumOf 38 = .ok (.iinc 3 1, 3) := dk_132 3 1 (dk_at dksX0_sumOf_1 15 rfl rfl)
theorem dX0_sumOf_41 : decode cX0_sumOf 41 = .ok (.goto (-31), 3) := dk_167 255 225 (dk_at dksX0_sumOf_1 18 rfl rfl)
theorem dX0_sumOf_44 : decode cX0_sumOf 44 = .ok (.iconst 0, 1) := dk_3 (dk_at dksX0_sumOf_1 21 rfl rfl)
theorem dX0_sumOf_45 : decode cX0_sumOf 45 = .ok (.istore_n 3, 1) := dk_62 (dk_at dksX0_sumOf_1 22 rfl rfl)
theorem dX0_sumOf_46 : decode cX0_sumOf 46 = .ok (.iload_n 3, 1) := dk_29 (dk_at dksX0_sumOf_1 23 rfl rfl)
theorem dX0_sumOf_47 : decode cX0_sumOf 47 = .ok (.aload_n 0, 1) := dk_42 (dk_at dksX0_sumOf_2 0 rfl rfl)
theorem dX0_sumOf_48 : decode cX0_sumOf 48 = .ok (.getfield 25, 3) := dk_180 0 25 (dk_at dksX0_sumOf_2 1 rfl rfl)
theorem dX0_sumOf_51 : decode cX0_sumOf 51 = .ok (.if_icmp .ge 27, 3) := dk_162 0 27 (dk_at dksX0_sumOf_2 4 rfl rfl)
theorem dX0_sumOf_54 : decode cX0_sumOf 54 = .ok (.iload_n 1, 1) := dk_27 (dk_at dksX0_sumOf_2 7 rfl rfl)
theorem dX0_sumOf_55 : decode cX0_sumOf 55 = .ok (.bipush 7, 2) := dk_16 7 (dk_at dksX0_sumOf_2 8 rfl rfl)
theorem dX0_sumOf_57 : decode cX0_sumOf 57 = .ok (.if_icmp .ne 21, 3) := dk_160 0 21 (dk_at dksX0_sumOf_2 10 rfl rfl)
theorem dX0_sumOf_60 : decode cX0_sumOf 60 = .ok (.iload_n 2, 1) := dk_28 (dk_at dksX0_sumOf_2 13 rfl rfl)
theorem dX0_sumOf_61 : decode cX0_sumOf 61 = .ok (.aload_n 0, 1) := dk_42 (dk_at dksX0_sumOf_2 14 rfl rfl)
theorem dX0_sumOf_62 : decode cX0_sumOf 62 = .ok (.getfield 33, 3) := dk_180 0 33 (dk_at dksX0_sumOf_2 15 rfl rfl)
theorem dX0_sumOf_65 : decode cX0_sumOf 65 = .ok (.iload_n 3, 1) := dk_29 (dk_at dksX0_sumOf_2 18 rfl rfl)
theorem dX0_sumOf_66 : decode cX0_sumOf 66 = .ok (.aaload, 1) := dk_50 (dk_at dksX0_sumOf_2 19 rfl rfl)
theorem dX0_sumOf_67 : decode cX0_sumOf 67 = .ok (.getfield 37, 3) := dk_180 0 37 (dk_at dksX0_sumOf_2 20 rfl rfl)
theorem dX0_sumOf_70 : decode cX0_sumOf 70 = .ok (.iadd, 1) := dk_96 (dk_at dksX0_sumOf_2 23 rfl rfl)
theorem dX0_sumOf_71 : decode cX0_sumOf 71 = .ok (.istore_n 2, 1) := dk_61 (dk_at dksX0_sumOf_3 0 rfl rfl)
theorem dX0_sumOf_72 : decode cX0_sumOf 72 = .ok (.iinc 3 1, 3) := dk_132 3 1 (dk_at dksX0_sumOf_3 1 rfl rfl)
theorem dX0_sumOf_75 : decode cX0_sumOf 75 = .ok (.goto (-29), 3) := dk_167 255 227 (dk_at dksX0_sumOf_3 4 rfl rfl)
theorem dX0_sumOf_78 : decode cX0_sumOf 78 = .ok (.iload_n 1, 1) := dk_27 (dk_at dksX0_sumOf_3 7 rfl rfl)
theorem dX0_sumOf_79 : decode cX0_sumOf 79 = .ok (.ifCond .ne 10, 3) := dk_154 0 10 (dk_at dksX0_sumOf_3 8 rfl rfl)
theorem dX0_sumOf_82 : decode cX0_sumOf 82 = .ok (.aload_n 0, 1) := dk_42 (dk_at dksX0_sumOf_3 11 rfl rfl)
theorem dX0_sumOf_83 : decode cX0_sumOf 83 = .ok (.getfield 25, 3) := dk_180 0 25 (dk_at dksX0_sumOf_3 12 rfl rfl)
theorem dX0_sumOf_86 : decode cX0_sumOf 86 = .ok (.goto 16, 3) := dk_167 0 16 (dk_at dksX0_sumOf_3 15 rfl rfl)
theorem dX0_sumOf_89 : decode cX0_sumOf 89 = .ok (.iload_n 1, 1) := dk_27 (dk_at dksX0_sumOf_3 18 rfl rfl)
theorem dX0_sumOf_90 : decode cX0_sumOf 90 = .ok (.iconst 1, 1) := dk_4 (dk_at dksX0_sumOf_3 19 rfl rfl)
theorem dX0_sumOf_91 : decode cX0_sumOf 91 = .ok (.if_icmp .ne 10, 3) := dk_160 0 10 (dk_at dksX0_sumOf_3 20 rfl rfl)
theorem dX0_sumOf_94 : decode cX0_sumOf 94 = .ok (.aload_n 0, 1) := dk_42 (dk_at dksX0_sumOf_3 23 rfl rfl)
theorem dX0_sumOf_95 : decode cX0_sumOf 95 = .ok (.getfield 46, 3) := dk_180 0 46 (dk_at dksX0_sumOf_4 0 rfl rfl)
theorem dX0_sumOf_98 : decode cX0_sumOf 98 = .ok (.goto 4, 3) := dk_167 0 4 (dk_at dksX0_sumOf_4 3 rfl rfl)
theorem dX0_sumOf_101 : decode cX0_sumOf 101 = .ok (.iload_n 2, 1) := dk_28 (dk_at dksX0_sumOf_4 6 rfl rfl)
theorem dX0_sumOf_102 : decode cX0_sumOf 102 = .ok (.ireturn, 1) := dk_172 (dk_at dksX0_sumOf_4 7 rfl rfl)
def dkwX0_digest_10 : List UInt8 := [42, 16, 9, 182, 1, 115, 133, 97, 64, 20, 1, 101, 31, 105, 42, 4, 182, 1, 19, 133, 97, 173]
abbrev dktX0_digest_10 : List UInt8 := dkwX0_digest_10 ++ []
def dkwX0_digest_9 : List UInt8 := [182, 0, 210, 133, 97, 64, 20, 1, 101, 31, 105, 42, 6, 182, 0, 213, 133, 97, 64, 20, 1, 101, 31, 105]
abbrev dktX0_digest_9 : List UInt8 := dkwX0_digest_9 ++ dktX0_digest_10
def dkwX0_digest_8 : List UInt8 := [20, 1, 101, 31, 105, 42, 16, 9, 182, 0, 210, 133, 97, 64, 20, 1, 101, 31, 105, 42, 16, 39]
abbrev dktX0_digest_8 : List UInt8 := dkwX0_digest_8 ++ dktX0_digest_9
def dkwX0_digest_7 : List UInt8 := [167, 255, 232, 132, 3, 1, 167, 255, 215, 20, 1, 101, 31, 105, 42, 3, 182, 0, 210, 133, 97, 64]
abbrev dktX0_digest_7 : List UInt8 := dkwX0_digest_7 ++ dktX0_digest_8
def dkwX0_digest_6 : List UInt8 := [6, 162, 0, 24, 20, 1, 101, 31, 105, 42, 29, 21, 4, 182, 0, 207, 133, 97, 64, 132, 4, 1]
abbrev dktX0_digest_6 : List UInt8 := dkwX0_digest_6 ++ dktX0_digest_7
def dkwX0_digest_5 : List UInt8 := [167, 255, 232, 132, 3, 1, 167, 255, 215, 3, 62, 29, 42, 180, 0, 108, 162, 0, 39, 3, 54, 4, 21, 4]
abbrev dktX0_digest_5 : List UInt8 := dkwX0_digest_5 ++ dktX0_digest_6
def dkwX0_digest_4 : List UInt8 := [21, 4, 6, 162, 0, 24, 20, 1, 101, 31, 105, 42, 29, 21, 4, 182, 0, 99, 133, 97, 64, 132, 4, 1]
abbrev dktX0_digest_4 : List UInt8 := dkwX0_digest_4 ++ dktX0_digest_5
def dkwX0_digest_3 : List UInt8 := [182, 1, 111, 64, 132, 3, 1, 167, 255, 238, 3, 62, 29, 42, 180, 0, 46, 162, 0, 39, 3, 54, 4]
abbrev dktX0_digest_3 : List UInt8 := dkwX0_digest_3 ++ dktX0_digest_4
def dkwX0_digest_2 : List UInt8 := [105, 42, 4, 182, 0, 79, 133, 97, 64, 3, 62, 29, 42, 180, 0, 25, 162, 0, 16, 42, 31, 29]
abbrev dktX0_digest_2 : List UInt8 := dkwX0_digest_2 ++ dktX0_digest_3
def dkwX0_digest_1 : List UInt8 := [64, 132, 3, 1, 167, 255, 234, 20, 1, 101, 31, 105, 42, 3, 182, 0, 79, 133, 97, 64, 20, 1, 101, 31]
abbrev dktX0_digest_1 : List UInt8 := dkwX0_digest_1 ++ dktX0_digest_2
def dkwX0_digest_0 : List UInt8 := [20, 1, 106, 64, 3, 62, 29, 16, 8, 162, 0, 22, 20, 1, 101, 31, 105, 42, 29, 182, 1, 108, 133, 97]
abbrev dktX0_digest_0 : List UInt8 := dkwX0_digest_0 ++ dktX0_digest_1
theorem dksX0_digest_0 : cX0_digest.data.toList.drop 0 = dktX0_digest_0 := by decide +kernel
theorem dksX0_digest_1 : cX0_digest.data.toList.drop 24 = dktX0_digest_1 := dk_seg dksX0_digest_0 24 rfl rfl
theorem dksX0_digest_2 : cX0_digest.data.toList.drop 48 = dktX0_digest_2 := dk_seg dksX0_digest_1 24 rfl rfl
theorem dksX0_digest_3 : cX0_digest.data.toList.drop 70 = dktX0_digest_3 := dk_seg dksX0_digest_2 22 rfl rfl
theorem dksX0_digest_4 : cX0_digest.data.toList.drop 93 = dktX0_digest_4 := dk_seg dksX0_digest_3 23 rfl rfl
theorem dksX0_digest_5 : cX0_digest.data.toList.drop 117 = dktX0_digest_5 := dk_seg dksX0_digest_4 24 rfl rfl
theorem dksX0_digest_6 : cX0_digest.data.toList.drop 141 = dktX0_digest_6 := dk_seg dksX0_digest_5 24 rfl rfl
theorem dksX0_digest_7 : cX0_digest.data.toList.drop 163 = dktX0_digest_7 := dk_seg dksX0_digest_6 22 rfl rfl
theorem dksX0_digest_8 : cX0_digest.data.toList.drop 185 = dktX0_digest_8 := dk_seg dksX0_digest_7 22 rfl rfl
theorem dksX0_digest_9 : cX0_digest.data.toList.drop 207 = dktX0_digest_9 := dk_seg dksX0_digest_8 22 rfl rfl
theorem dksX0_digest_10 : cX0_digest.data.toList.drop 231 = dktX0_digest_10 := dk_seg dksX0_digest_9 24 rfl rfl
theorem dX0_digest_0 : decode cX0_digest 0 = .ok (.ldc2_w 362, 3) := dk_20 1 106 (dk_at dksX0_digest_0 0 rfl rfl)
theorem dX0_digest_3 : decode cX0_digest 3 = .ok (.lstore_n 1, 1) := dk_64 (dk_at dksX0_digest_0 3 rfl rfl)
theorem dX0_digest_4 : decode cX0_digest 4 = .ok (.iconst 0, 1) := dk_3 (dk_at dksX0_digest_0 4 rfl rfl)
theorem dX0_digest_5 : decode cX0_digest 5 = .ok (.istore_n 3, 1) := dk_62 (dk_at dksX0_digest_0 5 rfl rfl)
theorem dX0_digest_6 : decode cX0_digest 6 = .ok (.iload_n 3, 1) := dk_29 (dk_at dksX0_digest_0 6 rfl rfl)
theorem dX0_digest_7 : decode cX0_digest 7 = .ok (.bipush 8, 2) := dk_16 8 (dk_at dksX0_digest_0 7 rfl rfl)
theorem dX0_digest_9 : decode cX0_digest 9 = .ok (.if_icmp .ge 22, 3) := dk_162 0 22 (dk_at dksX0_digest_0 9 rfl rfl)
theorem dX0_digest_12 : decode cX0_digest 12 = .ok (.ldc2_w 357, 3) := dk_20 1 101 (dk_at dksX0_digest_0 12 rfl rfl)
theorem dX0_digest_15 : decode cX0_digest 15 = .ok (.lload_n 1, 1) := dk_31 (dk_at dksX0_digest_0 15 rfl rfl)
theorem dX0_digest_16 : decode cX0_digest 16 = .ok (.lmul, 1) := dk_105 (dk_at dksX0_digest_0 16 rfl rfl)
theorem dX0_digest_17 : decode cX0_digest 17 = .ok (.aload_n 0, 1) := dk_42 (dk_at dksX0_digest_0 17 rfl rfl)
theorem dX0_digest_18 : decode cX0_digest 18 = .ok (.iload_n 3, 1) := dk_29 (dk_at dksX0_digest_0 18 rfl rfl)
theorem dX0_digest_19 : decode cX0_digest 19 = .ok (.invokevirtual 364, 3) := dk_182 1 108 (dk_at dksX0_digest_0 19 rfl rfl)
theorem dX0_digest_22 : decode cX0_digest 22 = .ok (.i2l, 1) := dk_133 (dk_at dksX0_digest_0 22 rfl rfl)
theorem dX0_digest_23 : decode cX0_digest 23 = .ok (.ladd, 1) := dk_97 (dk_at dksX0_digest_0 23 rfl rfl)
theorem dX0_digest_24 : decode cX0_digest 24 = .ok (.lstore_n 1, 1) := dk_64 (dk_at dksX0_digest_1 0 rfl rfl)
theorem dX0_digest_25 : decode cX0_digest 25 = .ok (.iinc 3 1, 3) := dk_132 3 1 (dk_at dksX0_digest_1 1 rfl rfl)
theorem dX0_digest_28 : decode cX0_digest 28 = .ok (.goto (-22), 3) := dk_167 255 234 (dk_at dksX0_digest_1 4 rfl rfl)
theorem dX0_digest_31 : decode cX0_digest 31 = .ok (.ldc2_w 357, 3) := dk_20 1 101 (dk_at dksX0_digest_1 7 rfl rfl)
theorem dX0_digest_34 : decode cX0_digest 34 = .ok (.lload_n 1, 1) := dk_31 (dk_at dksX0_digest_1 10 rfl rfl)
theorem dX0_digest_35 : decode cX0_digest 35 = .ok (.lmul, 1) := dk_105 (dk_at dksX0_digest_1 11 rfl rfl)
theorem dX0_digest_36 : decode cX0_digest 36 = .ok (.aload_n 0, 1) := dk_42 (dk_at dksX0_digest_1 12 rfl rfl)
theorem dX0_digest_37 : decode cX0_digest 37 = .ok (.iconst 0, 1) := dk_3 (dk_at dksX0_digest_1 13 rfl rfl)
theorem dX0_digest_38 : decode cX0_digest 38 = .ok (.invokevirtual 79, 3) := dk_182 0 79 (dk_at dksX0_digest_1 14 rfl rfl)
theorem dX0_digest_41 : decode cX0_digest 41 = .ok (.i2l, 1) := dk_133 (dk_at dksX0_digest_1 17 rfl rfl)
theorem dX0_digest_42 : decode cX0_digest 42 = .ok (.ladd, 1) := dk_97 (dk_at dksX0_digest_1 18 rfl rfl)
theorem dX0_digest_43 : decode cX0_digest 43 = .ok (.lstore_n 1, 1) := dk_64 (dk_at dksX0_digest_1 19 rfl rfl)
theorem dX0_digest_44 : decode cX0_digest 44 = .ok (.ldc2_w 357, 3) := dk_20 1 101 (dk_at dksX0_digest_1 20 rfl rfl)
theorem dX0_digest_47 : decode cX0_digest 47 = .ok (.lload_n 1, 1) := dk_31 (dk_at dksX0_digest_1 23 rfl rfl)
theorem dX0_digest_48 : decode cX0_digest 48 = .ok (.lmul, 1) := dk_105 (dk_at dksX0_digest_2 0 rfl rfl)
theorem dX0_digest_49 : decode cX0_digest 49 = .ok (.aload_n 0, 1) := dk_42 (dk_at dksX0_digest_2 1 rfl rfl)
theorem dX0_digest_50 : decode cX0_digest 50 = .ok (.iconst 1, 1) := dk_4 (dk_at dksX0_digest_2 2 rfl rfl)
theorem dX0_digest_51 : decode cX0_digest 51 = .ok (.invokevirtual 79, 3) := dk_182 0 79 (dk_at dksX0_digest_2 3 rfl rfl)
theorem dX0_digest_54 : decode cX0_digest 54 = .ok (.i2l, 1) := dk_133 (dk_at dksX0_digest_2 6 rfl rfl)
theorem dX0_digest_55 : decode cX0_digest 55 = .ok (.ladd, 1) := dk_97 (dk_at dksX0_digest_2 7 rfl rfl)
theorem dX0_digest_56 : decode cX0_digest 56 = .ok (.lstore_n 1, 1) := dk_64 (dk_at dksX0_digest_2 8 rfl rfl)
theorem dX0_digest_57 : decode cX0_digest 57 = .ok (.iconst 0, 1) := dk_3 (dk_at dksX0_digest_2 9 rfl rfl)
theorem dX0_digest_58 : decode cX0_digest 58 = .ok (.istore_n 3, 1) := dk_62 (dk_at dksX0_digest_2 10 rfl rfl)
theorem dX0_digest_59 : decode cX0_digest 59 = .ok (.iload_n 3, 1) := dk_29 (dk_at dksX0_digest_2 11 rfl rfl)
theorem dX0_digest_60 : decode cX0_digest 60 = .ok (.aload_n 0, 1) := dk_42 (dk_at dksX0_digest_2 12 rfl rfl)
theorem dX0_digest_61 : decode cX0_digest 61 = .ok (.getfield 25, 3) := dk_180 0 25 (dk_at dksX0_digest_2 13 rfl rfl)
theorem dX0_digest_64 : decode cX0_digest 64 = .ok (.if_icmp .ge 16, 3) := dk_162 0 16 (dk_at dksX0_digest_2 16 rfl rfl)
theorem dX0_digest_67 : decode cX0_digest 67 = .ok (.aload_n 0, 1) := dk_42 (dk_at dksX0_digest_2 19 rfl rfl)
theorem dX0_digest_68 : decode cX0_digest 68 = .ok (.lload_n 1, 1) := dk_31 (dk_at dksX0_digest_2 20 rfl rfl)
theorem dX0_digest_69 : decode cX0_digest 69 = .ok (.iload_n 3, 1) := dk_29 (dk_at dksX0_digest_2 21 rfl rfl)
theorem dX0_digest_70 : decode cX0_digest 70 = .ok (.invokevirtual 367, 3) := dk_182 1 111 (dk_at dksX0_digest_3 0 rfl rfl)
theorem dX0_digest_73 : decode cX0_digest 73 = .ok (.lstore_n 1, 1) := dk_64 (dk_at dksX0_digest_3 3 rfl rfl)
theorem dX0_digest_74 : decode cX0_digest 74 = .ok (.iinc 3 1, 3) := dk_132 3 1 (dk_at dksX0_digest_3 4 rfl rfl)
theorem dX0_digest_77 : decode cX0_digest 77 = .ok (.goto (-18), 3) := dk_167 255 238 (dk_at dksX0_digest_3 7 rfl rfl)
theorem dX0_digest_80 : decode cX0_digest 80 = .ok (.iconst 0, 1) := dk_3 (dk_at dksX0_digest_3 10 rfl rfl)
theorem dX0_digest_81 : decode cX0_digest 81 = .ok (.istore_n 3, 1) := dk_62 (dk_at dksX0_digest_3 11 rfl rfl)
theorem dX0_digest_82 : decode cX0_digest 82 = .ok (.iload_n 3, 1) := dk_29 (dk_at dksX0_digest_3 12 rfl rfl)
theorem dX0_digest_83 : decode cX0_digest 83 = .ok (.aload_n 0, 1) := dk_42 (dk_at dksX0_digest_3 13 rfl rfl)
theorem dX0_digest_84 : decode cX0_digest 84 = .ok (.getfield 46, 3) := dk_180 0 46 (dk_at dksX0_digest_3 14 rfl rfl)
theorem dX0_digest_87 : decode cX0_digest 87 = .ok (.if_icmp .ge 39, 3) := dk_162 0 39 (dk_at dksX0_digest_3 17 rfl rfl)
theorem dX0_digest_90 : decode cX0_digest 90 = .ok (.iconst 0, 1) := dk_3 (dk_at dksX0_digest_3 20 rfl rfl)
theorem dX0_digest_91 : decode cX0_digest 91 = .ok (.istore 4, 2) := dk_54 4 (dk_at dksX0_digest_3 21 rfl rfl)
theorem dX0_digest_93 : decode cX0_digest 93 = .ok (.iload 4, 2) := dk_21 4 (dk_at dksX0_digest_4 0 rfl rfl)
theorem dX0_digest_95 : decode cX0_digest 95 = .ok (.iconst 3, 1) := dk_6 (dk_at dksX0_digest_4 2 rfl rfl)
theorem dX0_digest_96 : decode cX0_digest 96 = .ok (.if_icmp .ge 24, 3) := dk_162 0 24 (dk_at dksX0_digest_4 3 rfl rfl)
theorem dX0_digest_99 : decode cX0_digest 99 = .ok (.ldc2_w 357, 3) := dk_20 1 101 (dk_at dksX0_digest_4 6 rfl rfl)
theorem dX0_digest_102 : decode cX0_digest 102 = .ok (.lload_n 1, 1) := dk_31 (dk_at dksX0_digest_4 9 rfl rfl)
theorem dX0_digest_103 : decode cX0_digest 103 = .ok (.lmul, 1) := dk_105 (dk_at dksX0_digest_4 10 rfl rfl)
theorem dX0_digest_104 : decode cX0_digest 104 = .ok (.aload_n 0, 1) := dk_42 (dk_at dksX0_digest_4 11 rfl rfl)
theorem dX0_digest_105 : decode cX0_digest 105 = .ok (.iload_n 3, 1) := dk_29 (dk_at dksX0_digest_4 12 rfl rfl)
theorem dX0_digest_106 : decode cX0_digest 106 = .ok (.iload 4, 2) := dk_21 4 (dk_at dksX0_digest_4 13 rfl rfl)
theorem dX0_digest_108 : decode cX0_digest 108 = .ok (.invokevirtual 99, 3) := dk_182 0 99 (dk_at dksX0_digest_4 15 rfl rfl)
theorem dX0_digest_111 : decode cX0_digest 111 = .ok (.i2l, 1) := dk_133 (dk_at dksX0_digest_4 18 rfl rfl)
theorem dX0_digest_112 : decode cX0_digest 112 = .ok (.ladd, 1) := dk_97 (dk_at dksX0_digest_4 19 rfl rfl)
theorem dX0_digest_113 : decode cX0_digest 113 = .ok (.lstore_n 1, 1) := dk_64 (dk_at dksX0_digest_4 20 rfl rfl)
theorem dX0_digest_114 : decode cX0_digest 114 = .ok (.iinc 4 1, 3) := dk_132 4 1 (dk_at dksX0_digest_4 21 rfl rfl)
theorem dX0_digest_117 : decode cX0_digest 117 = .ok (.goto (-24), 3) := dk_167 255 232 (dk_at dksX0_digest_5 0 rfl rfl)
theorem dX0_digest_120 : decode cX0_digest 120 = .ok (.iinc 3 1, 3) := dk_132 3 1 (dk_at dksX0_digest_5 3 rfl rfl)
theorem dX0_digest_123 : decode cX0_digest 123 = .ok (.goto (-41), 3) := dk_167 255 215 (dk_at dksX0_digest_5 6 rfl rfl)
theorem dX0_digest_126 : decode cX0_digest 126 = .ok (.iconst 0, 1) := dk_3 (dk_at dksX0_digest_5 9 rfl rfl)
theorem dX0_digest_127 : decode cX0_digest 127 = .ok (.istore_n 3, 1) := dk_62 (dk_at dksX0_digest_5 10 rfl rfl)
theorem dX0_digest_128 : decode cX0_digest 128 = .ok (.iload_n 3, 1) := dk_29 (dk_at dksX0_digest_5 11 rfl rfl)
theorem dX0_digest_129 : decode cX0_digest 129 = .ok (.aload_n 0, 1) := dk_42 (dk_at dksX0_digest_5 12 rfl rfl)
theorem dX0_digest_130 : decode cX0_digest 130 = .ok (.getfield 108, 3) := dk_180 0 108 (dk_at dksX0_digest_5 13 rfl rfl)
theorem dX0_digest_133 : decode cX0_digest 133 = .ok (.if_icmp .ge 39, 3) := dk_162 0 39 (dk_at dksX0_digest_5 16 rfl rfl)
theorem dX0_digest_136 : decode cX0_digest 136 = .ok (.iconst 0, 1) := dk_3 (dk_at dksX0_digest_5 19 rfl rfl)
theorem dX0_digest_137 : decode cX0_digest 137 = .ok (.istore 4, 2) := dk_54 4 (dk_at dksX0_digest_5 20 rfl rfl)
theorem dX0_digest_139 : decode cX0_digest 139 = .ok (.iload 4, 2) := dk_21 4 (dk_at dksX0_digest_5 22 rfl rfl)
theorem dX0_digest_141 : decode cX0_digest 141 = .ok (.iconst 3, 1) := dk_6 (dk_at dksX0_digest_6 0 rfl rfl)
theorem dX0_digest_142 : decode cX0_digest 142 = .ok (.if_icmp .ge 24, 3) := dk_162 0 24 (dk_at dksX0_digest_6 1 rfl rfl)
theorem dX0_digest_145 : decode cX0_digest 145 = .ok (.ldc2_w 357, 3) := dk_20 1 101 (dk_at dksX0_digest_6 4 rfl rfl)
theorem dX0_digest_148 : decode cX0_digest 148 = .ok (.lload_n 1, 1) := dk_31 (dk_at dksX0_digest_6 7 rfl rfl)
theorem dX0_digest_149 : decode cX0_digest 149 = .ok (.lmul, 1) := dk_105 (dk_at dksX0_digest_6 8 rfl rfl)
theorem dX0_digest_150 : decode cX0_digest 150 = .ok (.aload_n 0, 1) := dk_42 (dk_at dksX0_digest_6 9 rfl rfl)
theorem dX0_digest_151 : decode cX0_digest 151 = .ok (.iload_n 3, 1) := dk_29 (dk_at dksX0_digest_6 10 rfl rfl)
theorem dX0_digest_152 : decode cX0_digest 152 = .ok (.iload 4, 2) := dk_21 4 (dk_at dksX0_digest_6 11 rfl rfl)
theorem dX0_digest_154 : decode cX0_digest 154 = .ok (.invokevirtual 207, 3) := dk_182 0 207 (dk_at dksX0_digest_6 13 rfl rfl)
theorem dX0_digest_157 : decode cX0_digest 157 = .ok (.i2l, 1) := dk_133 (dk_at dksX0_digest_6 16 rfl rfl)
theorem dX0_digest_158 : decode cX0_digest 158 = .ok (.ladd, 1) := dk_97 (dk_at dksX0_digest_6 17 rfl rfl)
theorem dX0_digest_159 : decode cX0_digest 159 = .ok (.lstore_n 1, 1) := dk_64 (dk_at dksX0_digest_6 18 rfl rfl)
theorem dX0_digest_160 : decode cX0_digest 160 = .ok (.iinc 4 1, 3) := dk_132 4 1 (dk_at dksX0_digest_6 19 rfl rfl)
theorem dX0_digest_163 : decode cX0_digest 163 = .ok (.goto (-24), 3) := dk_167 255 232 (dk_at dksX0_digest_7 0 rfl rfl)
theorem dX0_digest_166 : decode cX0_digest 166 = .ok (.iinc 3 1, 3) := dk_132 3 1 (dk_at dksX0_digest_7 3 rfl rfl)
theorem dX0_digest_169 : decode cX0_digest 169 = .ok (.goto (-41), 3) := dk_167 255 215 (dk_at dksX0_digest_7 6 rfl rfl)
theorem dX0_digest_172 : decode cX0_digest 172 = .ok (.ldc2_w 357, 3) := dk_20 1 101 (dk_at dksX0_digest_7 9 rfl rfl)
theorem dX0_digest_175 : decode cX0_digest 175 = .ok (.lload_n 1, 1) := dk_31 (dk_at dksX0_digest_7 12 rfl rfl)
theorem dX0_digest_176 : decode cX0_digest 176 = .ok (.lmul, 1) := dk_105 (dk_at dksX0_digest_7 13 rfl rfl)
theorem dX0_digest_177 : decode cX0_digest 177 = .ok (.aload_n 0, 1) := dk_42 (dk_at dksX0_digest_7 14 rfl rfl)
theorem dX0_digest_178 : decode cX0_digest 178 = .ok (.iconst 0, 1) := dk_3 (dk_at dksX0_digest_7 15 rfl rfl)
theorem dX0_digest_179 : decode cX0_digest 179 = .ok (.invokevirtual 210, 3) := dk_182 0 210 (dk_at dksX0_digest_7 16 rfl rfl)
theorem dX0_digest_182 : decode cX0_digest 182 = .ok (.i2l, 1) := dk_133 (dk_at dksX0_digest_7 19 rfl rfl)
theorem dX0_digest_183 : decode cX0_digest 183 = .ok (.ladd, 1) := dk_97 (dk_at dksX0_digest_7 20 rfl rfl)
theorem dX0_digest_184 : decode cX0_digest 184 = .ok (.lstore_n 1, 1) := dk_64 (dk_at dksX0_digest_7 21 rfl rfl)
theorem dX0_digest_185 : decode cX0_digest 185 = .ok (.ldc2_w 357, 3) := dk_20 1 101 (dk_at dksX0_digest_8 0 rfl rfl)
theorem dX0_digest_188 : decode cX0_digest 188 = .ok (.lload_n 1, 1) := dk_31 (dk_at dksX0_digest_8 3 rfl rfl)
theorem dX0_digest_189 : decode cX0_digest 189 = .ok (.lmul, 1) := dk_105 (dk_at dksX0_digest_8 4 rfl rfl)
theorem dX0_digest_190 : decode cX0_digest 190 = .ok (.aload_n 0, 1) := dk_42 (dk_at dksX0_digest_8 5 rfl rfl)
theorem dX0_digest_191 : decode cX0_digest 191 = .ok (.bipush 9, 2) := dk_16 9 (dk_at dksX0_digest_8 6 rfl rfl)
theorem dX0_digest_193 : decode cX0_digest 193 = .ok (.invokevirtual 210, 3) := dk_182 0 210 (dk_at dksX0_digest_8 8 rfl rfl)
theorem dX0_digest_196 : decode cX0_digest 196 = .ok (.i2l, 1) := dk_133 (dk_at dksX0_digest_8 11 rfl rfl)
theorem dX0_digest_197 : decode cX0_digest 197 = .ok (.ladd, 1) := dk_97 (dk_at dksX0_digest_8 12 rfl rfl)
theorem dX0_digest_198 : decode cX0_digest 198 = .ok (.lstore_n 1, 1) := dk_64 (dk_at dksX0_digest_8 13 rfl rfl)
theorem dX0_digest_199 : decode cX0_digest 199 = .ok (.ldc2_w 357, 3) := dk_20 1 101 (dk_at dksX0_digest_8 14 rfl rfl)
theorem dX0_digest_202 : decode cX0_digest 202 = .ok (.lload_n 1, 1) := dk_31 (dk_at dksX0_digest_8 17 rfl rfl)
theorem dX0_digest_203 : decode cX0_digest 203 = .ok (.lmul, 1) := dk_105 (dk_at dksX0_digest_8 18 rfl rfl)
theorem dX0_digest_204 : decode cX0_digest 204 = .ok (.aload_n 0, 1) := dk_42 (dk_at dksX0_digest_8 19 rfl rfl)
theorem dX0_digest_205 : decode cX0_digest 205 = .ok (.bipush 39, 2) := dk_16 39 (dk_at dksX0_digest_8 20 rfl rfl)
theorem dX0_digest_207 : decode cX0_digest 207 = .ok (.invokevirtual 210, 3) := dk_182 0 210 (dk_at dksX0_digest_9 0 rfl rfl)
theorem dX0_digest_210 : decode cX0_digest 210 = .ok (.i2l, 1) := dk_133 (dk_at dksX0_digest_9 3 rfl rfl)
theorem dX0_digest_211 : decode cX0_digest 211 = .ok (.ladd, 1) := dk_97 (dk_at dksX0_digest_9 4 rfl rfl)
theorem dX0_digest_212 : decode cX0_digest 212 = .ok (.lstore_n 1, 1) := dk_64 (dk_at dksX0_digest_9 5 rfl rfl)
theorem dX0_digest_213 : decode cX0_digest 213 = .ok (.ldc2_w 357, 3) := dk_20 1 101 (dk_at dksX0_digest_9 6 rfl rfl)
theorem dX0_digest_216 : decode cX0_digest 216 = .ok (.lload_n 1, 1) := dk_31 (dk_at dksX0_digest_9 9 rfl rfl)
theorem dX0_digest_217 : decode cX0_digest 217 = .ok (.lmul, 1) := dk_105 (dk_at dksX0_digest_9 10 rfl rfl)
theorem dX0_digest_218 : decode cX0_digest 218 = .ok (.aload_n 0, 1) := dk_42 (dk_at dksX0_digest_9 11 rfl rfl)
theorem dX0_digest_219 : decode cX0_digest 219 = .ok (.iconst 3, 1) := dk_6 (dk_at dksX0_digest_9 12 rfl rfl)
theorem dX0_digest_220 : decode cX0_digest 220 = .ok (.invokevirtual 213, 3) := dk_182 0 213 (dk_at dksX0_digest_9 13 rfl rfl)
theorem dX0_digest_223 : decode cX0_digest 223 = .ok (.i2l, 1) := dk_133 (dk_at dksX0_digest_9 16 rfl rfl)
theorem dX0_digest_224 : decode cX0_digest 224 = .ok (.ladd, 1) := dk_97 (dk_at dksX0_digest_9 17 rfl rfl)
theorem dX0_digest_225 : decode cX0_digest 225 = .ok (.lstore_n 1, 1) := dk_64 (dk_at dksX0_digest_9 18 rfl rfl)
theorem dX0_digest_226 : decode cX0_digest 226 = .ok (.ldc2_w 357, 3) := dk_20 1 101 (dk_at dksX0_digest_9 19 rfl rfl)
theorem dX0_digest_229 : decode cX0_digest 229 = .ok (.lload_n 1, 1) := dk_31 (dk_at dksX0_digest_9 22 rfl rfl)
theorem dX0_digest_230 : decode cX0_digest 230 = .ok (.lmul, 1) := dk_105 (dk_at dksX0_digest_9 23 rfl rfl)
theorem dX0_digest_231 : decode cX0_digest 231 = .ok (.aload_n 0, 1) := dk_42 (dk_at dksX0_digest_10 0 rfl rfl)
theorem dX0_digest_232 : decode cX0_digest 232 = .ok (.bipush 9, 2) := dk_16 9 (dk_at dksX0_digest_10 1 rfl rfl)
theorem dX0_digest_234 : decode cX0_digest 234 = .ok (.invokevirtual 371, 3) := dk_182 1 115 (dk_at dksX0_digest_10 3 rfl rfl)
theorem dX0_digest_237 : decode cX0_digest 237 = .ok (.i2l, 1) := dk_133 (dk_at dksX0_digest_10 6 rfl rfl)
theorem dX0_digest_238 : decode cX0_digest 238 = .ok (.ladd, 1) := dk_97 (dk_at dksX0_digest_10 7 rfl rfl)
theorem dX0_digest_239 : decode cX0_digest 239 = .ok (.lstore_n 1, 1) := dk_64 (dk_at dksX0_digest_10 8 rfl rfl)
theorem dX0_digest_240 : decode cX0_digest 240 = .ok (.ldc2_w 357, 3) := dk_20 1 101 (dk_at dksX0_digest_10 9 rfl rfl)
theorem dX0_digest_243 : decode cX0_digest 243 = .ok (.lload_n 1, 1) := dk_31 (dk_at dksX0_digest_10 12 rfl rfl)
theorem dX0_digest_244 : decode cX0_digest 244 = .ok (.lmul, 1) := dk_105 (dk_at dksX0_digest_10 13 rfl rfl)
theorem dX0_digest_245 : decode cX0_digest 245 = .ok (.aload_n 0, 1) := dk_42 (dk_at dksX0_digest_10 14 rfl rfl)
theorem dX0_digest_246 : decode cX0_digest 246 = .ok (.iconst 1, 1) := dk_4 (dk_at dksX0_digest_10 15 rfl rfl)
theorem dX0_digest_247 : decode cX0_digest 247 = .ok (.invokevirtual 275, 3) := dk_182 1 19 (dk_at dksX0_digest_10 16 rfl rfl)
theorem dX0_digest_250 : decode cX0_digest 250 = .ok (.i2l, 1) := dk_133 (dk_at dksX0_digest_10 19 rfl rfl)
theorem dX0_digest_251 : decode cX0_digest 251 = .ok (.ladd, 1) := dk_97 (dk_at dksX0_digest_10 20 rfl rfl)
theorem dX0_digest_252 : decode cX0_digest 252 = .ok (.lreturn, 1) := dk_173 (dk_at dksX0_digest_10 21 rfl rfl)
def dkwX0_tuneDigest_14 : List UInt8 := [182, 1, 103, 97, 173]
abbrev dktX0_tuneDigest_14 : List UInt8 := dkwX0_tuneDigest_14 ++ []
def dkwX0_tuneDigest_13 : List UInt8 := [16, 9, 3, 182, 1, 103, 97, 55, 4, 20, 1, 101, 22, 4, 105, 42, 8, 29, 3, 7, 16, 9, 4]
abbrev dktX0_tuneDigest_13 : List UInt8 := dkwX0_tuneDigest_13 ++ dktX0_tuneDigest_14
def dkwX0_tuneDigest_12 : List UInt8 := [16, 7, 16, 9, 29, 182, 1, 39, 133, 97, 55, 4, 20, 1, 101, 22, 4, 105, 42, 8, 29, 3, 7]
abbrev dktX0_tuneDigest_12 : List UInt8 := dkwX0_tuneDigest_12 ++ dktX0_tuneDigest_13
def dkwX0_tuneDigest_11 : List UInt8 := [20, 1, 101, 22, 4, 105, 42, 29, 4, 182, 1, 13, 133, 97, 55, 4, 20, 1, 101, 22, 4, 105, 42]
abbrev dktX0_tuneDigest_11 : List UInt8 := dkwX0_tuneDigest_11 ++ dktX0_tuneDigest_12
def dkwX0_tuneDigest_10 : List UInt8 := [182, 1, 4, 133, 97, 55, 4, 20, 1, 101, 22, 4, 105, 42, 29, 3, 182, 1, 13, 133, 97, 55, 4]
abbrev dktX0_tuneDigest_10 : List UInt8 := dkwX0_tuneDigest_10 ++ dktX0_tuneDigest_11
def dkwX0_tuneDigest_9 : List UInt8 := [20, 1, 101, 22, 4, 105, 42, 29, 182, 1, 1, 133, 97, 55, 4, 20, 1, 101, 22, 4, 105, 42, 29]
abbrev dktX0_tuneDigest_9 : List UInt8 := dkwX0_tuneDigest_9 ++ dktX0_tuneDigest_10
def dkwX0_tuneDigest_8 : List UInt8 := [182, 0, 248, 133, 97, 55, 4, 20, 1, 101, 22, 4, 105, 42, 3, 29, 182, 0, 254, 133, 97, 55, 4]
abbrev dktX0_tuneDigest_8 : List UInt8 := dkwX0_tuneDigest_8 ++ dktX0_tuneDigest_9
def dkwX0_tuneDigest_7 : List UInt8 := [22, 4, 105, 42, 3, 29, 3, 182, 0, 248, 133, 97, 55, 4, 20, 1, 101, 22, 4, 105, 42, 3, 29, 4]
abbrev dktX0_tuneDigest_7 : List UInt8 := dkwX0_tuneDigest_7 ++ dktX0_tuneDigest_8
def dkwX0_tuneDigest_6 : List UInt8 := [97, 55, 4, 20, 1, 101, 22, 4, 105, 42, 29, 6, 3, 182, 0, 238, 133, 97, 55, 4, 20, 1, 101]
abbrev dktX0_tuneDigest_6 : List UInt8 := dkwX0_tuneDigest_6 ++ dktX0_tuneDigest_7
def dkwX0_tuneDigest_5 : List UInt8 := [16, 9, 3, 182, 0, 235, 133, 97, 55, 4, 20, 1, 101, 22, 4, 105, 42, 29, 6, 2, 182, 0, 238, 133]
abbrev dktX0_tuneDigest_5 : List UInt8 := dkwX0_tuneDigest_5 ++ dktX0_tuneDigest_6
def dkwX0_tuneDigest_4 : List UInt8 := [22, 4, 105, 42, 29, 16, 9, 2, 182, 0, 235, 133, 97, 55, 4, 20, 1, 101, 22, 4, 105, 42, 29]
abbrev dktX0_tuneDigest_4 : List UInt8 := dkwX0_tuneDigest_4 ++ dktX0_tuneDigest_5
def dkwX0_tuneDigest_3 : List UInt8 := [133, 97, 55, 4, 20, 1, 101, 22, 4, 105, 42, 8, 29, 182, 0, 204, 133, 97, 55, 4, 20, 1, 101]
abbrev dktX0_tuneDigest_3 : List UInt8 := dkwX0_tuneDigest_3 ++ dktX0_tuneDigest_4
def dkwX0_tuneDigest_2 : List UInt8 := [16, 39, 29, 2, 182, 0, 200, 133, 97, 55, 4, 20, 1, 101, 22, 4, 105, 42, 8, 29, 5, 182, 0, 200]
abbrev dktX0_tuneDigest_2 : List UInt8 := dkwX0_tuneDigest_2 ++ dktX0_tuneDigest_3
def dkwX0_tuneDigest_1 : List UInt8 := [20, 1, 101, 22, 4, 105, 42, 8, 29, 2, 182, 0, 200, 133, 97, 55, 4, 20, 1, 101, 22, 4, 105, 42]
abbrev dktX0_tuneDigest_1 : List UInt8 := dkwX0_tuneDigest_1 ++ dktX0_tuneDigest_2
def dkwX0_tuneDigest_0 : List UInt8 := [31, 55, 4, 20, 1, 101, 22, 4, 105, 42, 180, 0, 33, 29, 50, 180, 0, 37, 133, 97, 55, 4]
abbrev dktX0_tuneDigest_0 : List UInt8 := dkwX0_tuneDigest_0 ++ dktX0_tuneDigest_1
theorem dksX0_tuneDigest_0 : cX0_tuneDigest.data.toList.drop 0 = dktX0_tuneDigest_0 := by decide +kernel
theorem dksX0_tuneDigest_1 : cX0_tuneDigest.data.toList.drop 22 = dktX0_tuneDigest_1 := dk_seg dksX0_tuneDigest_0 22 rfl rfl
theorem dksX0_tuneDigest_2 : cX0_tuneDigest.data.toList.drop 46 = dktX0_tuneDigest_2 := dk_seg dksX0_tuneDigest_1 24 rfl rfl
theorem dksX0_tuneDigest_3 : cX0_tuneDigest.data.toList.drop 70 = dktX0_tuneDigest_3 := dk_seg dksX0_tuneDigest_2 24 rfl rfl
theorem dksX0_tuneDigest_4 : cX0_tuneDigest.data.toList.drop 93 = dktX0_tuneDigest_4 := dk_seg dksX0_tuneDigest_3 23 rfl rfl
theorem dksX0_tuneDigest_5 : cX0_tuneDigest.data.toList.drop 116 = dktX0_tuneDigest_5 := dk_seg dksX0_tuneDigest_4 23 rfl rfl
theorem dksX0_tuneDigest_6 : cX0_tuneDigest.data.toList.drop 140 = dktX0_tuneDigest_6 := dk_seg dksX0_tuneDigest_5 24 rfl rfl
theorem dksX0_tuneDigest_7 : cX0_tuneDigest.data.toList.drop 163 = dktX0_tuneDigest_7 := dk_seg dksX0_tuneDigest_6 23 rfl rfl
theorem dksX0_tuneDigest_8 : cX0_tuneDigest.data.toList.drop 187 = dktX0_tuneDigest_8 := dk_seg dksX0_tuneDigest_7 24 rfl rfl
theorem dksX0_tuneDigest_9 : cX0_tuneDigest.data.toList.drop 210 = dktX0_tuneDigest_9 := dk_seg dksX0_tuneDigest_8 23 rfl rfl
theorem dksX0_tuneDigest_10 : cX0_tuneDigest.data.toList.drop 233 = dktX0_tuneDigest_10 := dk_seg dksX0_tuneDigest_9 23 rfl rfl
theorem dksX0_tuneDigest_11 : cX0_tuneDigest.data.toList.drop 256 = dktX0_tuneDigest_11 := dk_seg dksX0_tuneDigest_10 23 rfl rfl
theorem dksX0_tuneDigest_12 : cX0_tuneDigest.data.toList.drop 279 = dktX0_tuneDigest_12 := dk_seg dksX0_tuneDigest_11 23 rfl rfl
theorem dksX0_tuneDigest_13 : cX0_tuneDigest.data.toList.drop 302 = dktX0_tuneDigest_13 := dk_seg dksX0_tuneDigest_12 23 rfl rfl
theorem dksX0_tuneDigest_14 : cX0_tuneDigest.data.toList.drop 325 = dktX0_tuneDigest_14 := dk_seg dksX0_tuneDigest_13 23 rfl rfl
theorem dX0_tuneDigest_0 : decode cX0_tuneDigest 0 = .ok (.lload_n 1, 1) := dk_31 (dk_at dksX0_tuneDigest_0 0 rfl rfl)
theorem dX0_tuneDigest_1 : decode cX0_tuneDigest 1 = .ok (.lstore 4, 2) := dk_55 4 (dk_at dksX0_tuneDigest_0 1 rfl rfl)
theorem dX0_tuneDigest_3 : decode cX0_tuneDigest 3 = .ok (.ldc2_w 357, 3) := dk_20 1 101 (dk_at dksX0_tuneDigest_0 3 rfl rfl)
theorem dX0_tuneDigest_6 : decode cX0_tuneDigest 6 = .ok (.lload 4, 2) := dk_22 4 (dk_at dksX0_tuneDigest_0 6 rfl rfl)
theorem dX0_tuneDigest_8 : decode cX0_tuneDigest 8 = .ok (.lmul, 1) := dk_105 (dk_at dksX0_tuneDigest_0 8 rfl rfl)
theorem dX0_tuneDigest_9 : decode cX0_tuneDigest 9 = .ok (.aload_n 0, 1) := dk_42 (dk_at dksX0_tuneDigest_0 9 rfl rfl)
theorem dX0_tuneDigest_10 : decode cX0_tuneDigest 10 = .ok (.getfield 33, 3) := dk_180 0 33 (dk_at dksX0_tuneDigest_0 10 rfl rfl)
theorem dX0_tuneDigest_13 : decode cX0_tuneDigest 13 = .ok (.iload_n 3, 1) := dk_29 (dk_at dksX0_tuneDigest_0 13 rfl rfl)
theorem dX0_tuneDigest_14 : decode cX0_tuneDigest 14 = .ok (.aaload, 1) := dk_50 (dk_at dksX0_tuneDigest_0 14 rfl rfl)
theorem dX0_tuneDigest_15 : decode cX0_tuneDigest 15 = .ok (.getfield 37, 3) := dk_180 0 37 (dk_at dksX0_tuneDigest_0 15 rfl rfl)
theorem dX0_tuneDigest_18 : decode cX0_tuneDigest 18 = .ok (.i2l, 1) := dk_133 (dk_at dksX0_tuneDigest_0 18 rfl rfl)
theorem dX0_tuneDigest_19 : decode cX0_tuneDigest 19 = .ok (.ladd, 1) := dk_97 (dk_at dksX0_tuneDigest_0 19 rfl rfl)
theorem dX0_tuneDigest_20 : decode cX0_tuneDigest 20 = .ok (.lstore 4, 2) := dk_55 4 (dk_at dksX0_tuneDigest_0 20 rfl rfl)
theorem dX0_tuneDigest_22 : decode cX0_tuneDigest 22 = .ok (.ldc2_w 357, 3) := dk_20 1 101 (dk_at dksX0_tuneDigest_1 0 rfl rfl)
theorem dX0_tuneDigest_25 : decode cX0_tuneDigest 25 = .ok (.lload 4, 2) := dk_22 4 (dk_at dksX0_tuneDigest_1 3 rfl rfl)
theorem dX0_tuneDigest_27 : decode cX0_tuneDigest 27 = .ok (.lmul, 1) := dk_105 (dk_at dksX0_tuneDigest_1 5 rfl rfl)
theorem dX0_tuneDigest_28 : decode cX0_tuneDigest 28 = .ok (.aload_n 0, 1) := dk_42 (dk_at dksX0_tuneDigest_1 6 rfl rfl)
theorem dX0_tuneDigest_29 : decode cX0_tuneDigest 29 = .ok (.iconst 5, 1) := dk_8 (dk_at dksX0_tuneDigest_1 7 rfl rfl)
theorem dX0_tuneDigest_30 : decode cX0_tuneDigest 30 = .ok (.iload_n 3, 1) := dk_29 (dk_at dksX0_tuneDigest_1 8 rfl rfl)
theorem dX0_tuneDigest_31 : decode cX0_tuneDigest 31 = .ok (.iconst (-1), 1) := dk_2 (dk_at dksX0_tuneDigest_1 9 rfl rfl)
theorem dX0_tuneDigest_32 : decode cX0_tuneDigest 32 = .ok (.invokevirtual 200, 3) := dk_182 0 200 (dk_at dksX0_tuneDigest_1 10 rfl rfl)
theorem dX0_tuneDigest_35 : decode cX0_tuneDigest 35 = .ok (.i2l, 1) := dk_133 (dk_at dksX0_tuneDigest_1 13 rfl rfl)
theorem dX0_tuneDigest_36 : decode cX0_tuneDigest 36 = .ok (.ladd, 1) := dk_97 (dk_at dksX0_tuneDigest_1 14 rfl rfl)
theorem dX0_tuneDigest_37 : decode cX0_tuneDigest 37 = .ok (.lstore 4, 2) := dk_55 4 (dk_at dksX0_tuneDigest_1 15 rfl rfl)
theorem dX0_tuneDigest_39 : decode cX0_tuneDigest 39 = .ok (.ldc2_w 357, 3) := dk_20 1 101 (dk_at dksX0_tuneDigest_1 17 rfl rfl)
theorem dX0_tuneDigest_42 : decode cX0_tuneDigest 42 = .ok (.lload 4, 2) := dk_22 4 (dk_at dksX0_tuneDigest_1 20 rfl rfl)
theorem dX0_tuneDigest_44 : decode cX0_tuneDigest 44 = .ok (.lmul, 1) := dk_105 (dk_at dksX0_tuneDigest_1 22 rfl rfl)
theorem dX0_tuneDigest_45 : decode cX0_tuneDigest 45 = .ok (.aload_n 0, 1) := dk_42 (dk_at dksX0_tuneDigest_1 23 rfl rfl)
theorem dX0_tuneDigest_46 : decode cX0_tuneDigest 46 = .ok (.bipush 39, 2) := dk_16 39 (dk_at dksX0_tuneDigest_2 0 rfl rfl)
theorem dX0_tuneDigest_48 : decode cX0_tuneDigest 48 = .ok (.iload_n 3, 1) := dk_29 (dk_at dksX0_tuneDigest_2 2 rfl rfl)
theorem dX0_tuneDigest_49 : decode cX0_tuneDigest 49 = .ok (.iconst (-1), 1) := dk_2 (dk_at dksX0_tuneDigest_2 3 rfl rfl)
theorem dX0_tuneDigest_50 : decode cX0_tuneDigest 50 = .ok (.invokevirtual 200, 3) := dk_182 0 200 (dk_at dksX0_tuneDigest_2 4 rfl rfl)
theorem dX0_tuneDigest_53 : decode cX0_tuneDigest 53 = .ok (.i2l, 1) := dk_133 (dk_at dksX0_tuneDigest_2 7 rfl rfl)
theorem dX0_tuneDigest_54 : decode cX0_tuneDigest 54 = .ok (.ladd, 1) := dk_97 (dk_at dksX0_tuneDigest_2 8 rfl rfl)
theorem dX0_tuneDigest_55 : decode cX0_tuneDigest 55 = .ok (.lstore 4, 2) := dk_55 4 (dk_at dksX0_tuneDigest_2 9 rfl rfl)
theorem dX0_tuneDigest_57 : decode cX0_tuneDigest 57 = .ok (.ldc2_w 357, 3) := dk_20 1 101 (dk_at dksX0_tuneDigest_2 11 rfl rfl)
theorem dX0_tuneDigest_60 : decode cX0_tuneDigest 60 = .ok (.lload 4, 2) := dk_22 4 (dk_at dksX0_tuneDigest_2 14 rfl rfl)
theorem dX0_tuneDigest_62 : decode cX0_tuneDigest 62 = .ok (.lmul, 1) := dk_105 (dk_at dksX0_tuneDigest_2 16 rfl rfl)
theorem dX0_tuneDigest_63 : decode cX0_tuneDigest 63 = .ok (.aload_n 0, 1) := dk_42 (dk_at dksX0_tuneDigest_2 17 rfl rfl)
theorem dX0_tuneDigest_64 : decode cX0_tuneDigest 64 = .ok (.iconst 5, 1) := dk_8 (dk_at dksX0_tuneDigest_2 18 rfl rfl)
theorem dX0_tuneDigest_65 : decode cX0_tuneDigest 65 = .ok (.iload_n 3, 1) := dk_29 (dk_at dksX0_tuneDigest_2 19 rfl rfl)
theorem dX0_tuneDigest_66 : decode cX0_tuneDigest 66 = .ok (.iconst 2, 1) := dk_5 (dk_at dksX0_tuneDigest_2 20 rfl rfl)
theorem dX0_tuneDigest_67 : decode cX0_tuneDigest 67 = .ok (.invokevirtual 200, 3) := dk_182 0 200 (dk_at dksX0_tuneDigest_2 21 rfl rfl)
theorem dX0_tuneDigest_70 : decode cX0_tuneDigest 70 = .ok (.i2l, 1) := dk_133 (dk_at dksX0_tuneDigest_3 0 rfl rfl)
theorem dX0_tuneDigest_71 : decode cX0_tuneDigest 71 = .ok (.ladd, 1) := dk_97 (dk_at dksX0_tuneDigest_3 1 rfl rfl)
theorem dX0_tuneDigest_72 : decode cX0_tuneDigest 72 = .ok (.lstore 4, 2) := dk_55 4 (dk_at dksX0_tuneDigest_3 2 rfl rfl)
theorem dX0_tuneDigest_74 : decode cX0_tuneDigest 74 = .ok (.ldc2_w 357, 3) := dk_20 1 101 (dk_at dksX0_tuneDigest_3 4 rfl rfl)
theorem dX0_tuneDigest_77 : decode cX0_tuneDigest 77 = .ok (.lload 4, 2) := dk_22 4 (dk_at dksX0_tuneDigest_3 7 rfl rfl)
theorem dX0_tuneDigest_79 : decode cX0_tuneDigest 79 = .ok (.lmul, 1) := dk_105 (dk_at dksX0_tuneDigest_3 9 rfl rfl)
theorem dX0_tuneDigest_80 : decode cX0_tuneDigest 80 = .ok (.aload_n 0, 1) := dk_42 (dk_at dksX0_tuneDigest_3 10 rfl rfl)
theorem dX0_tuneDigest_81 : decode cX0_tuneDigest 81 = .ok (.iconst 5, 1) := dk_8 (dk_at dksX0_tuneDigest_3 11 rfl rfl)
theorem dX0_tuneDigest_82 : decode cX0_tuneDigest 82 = .ok (.iload_n 3, 1) := dk_29 (dk_at dksX0_tuneDigest_3 12 rfl rfl)
theorem dX0_tuneDigest_83 : decode cX0_tuneDigest 83 = .ok (.invokevirtual 204, 3) := dk_182 0 204 (dk_at dksX0_tuneDigest_3 13 rfl rfl)
theorem dX0_tuneDigest_86 : decode cX0_tuneDigest 86 = .ok (.i2l, 1) := dk_133 (dk_at dksX0_tuneDigest_3 16 rfl rfl)
theorem dX0_tuneDigest_87 : decode cX0_tuneDigest 87 = .ok (.ladd, 1) := dk_97 (dk_at dksX0_tuneDigest_3 17 rfl rfl)
theorem dX0_tuneDigest_88 : decode cX0_tuneDigest 88 = .ok (.lstore 4, 2) := dk_55 4 (dk_at dksX0_tuneDigest_3 18 rfl rfl)
theorem dX0_tuneDigest_90 : decode cX0_tuneDigest 90 = .ok (.ldc2_w 357, 3) := dk_20 1 101 (dk_at dksX0_tuneDigest_3 20 rfl rfl)
theorem dX0_tuneDigest_93 : decode cX0_tuneDigest 93 = .ok (.lload 4, 2) := dk_22 4 (dk_at dksX0_tuneDigest_4 0 rfl rfl)
theorem dX0_tuneDigest_95 : decode cX0_tuneDigest 95 = .ok (.lmul, 1) := dk_105 (dk_at dksX0_tuneDigest_4 2 rfl rfl)
theorem dX0_tuneDigest_96 : decode cX0_tuneDigest 96 = .ok (.aload_n 0, 1) := dk_42 (dk_at dksX0_tuneDigest_4 3 rfl rfl)
theorem dX0_tuneDigest_97 : decode cX0_tuneDigest 97 = .ok (.iload_n 3, 1) := dk_29 (dk_at dksX0_tuneDigest_4 4 rfl rfl)
theorem dX0_tuneDigest_98 : decode cX0_tuneDigest 98 = .ok (.bipush 9, 2) := dk_16 9 (dk_at dksX0_tuneDigest_4 5 rfl rfl)
theorem dX0_tuneDigest_100 : decode cX0_tuneDigest 100 = .ok (.iconst (-1), 1) := dk_2 (dk_at dksX0_tuneDigest_4 7 rfl rfl)
theorem dX0_tuneDigest_101 : decode cX0_tuneDigest 101 = .ok (.invokevirtual 235, 3) := dk_182 0 235 (dk_at dksX0_tuneDigest_4 8 rfl rfl)
theorem dX0_tuneDigest_104 : decode cX0_tuneDigest 104 = .ok (.i2l, 1) := dk_133 (dk_at dksX0_tuneDigest_4 11 rfl rfl)
theorem dX0_tuneDigest_105 : decode cX0_tuneDigest 105 = .ok (.ladd, 1) := dk_97 (dk_at dksX0_tuneDigest_4 12 rfl rfl)
theorem dX0_tuneDigest_106 : decode cX0_tuneDigest 106 = .ok (.lstore 4, 2) := dk_55 4 (dk_at dksX0_tuneDigest_4 13 rfl rfl)
theorem dX0_tuneDigest_108 : decode cX0_tuneDigest 108 = .ok (.ldc2_w 357, 3) := dk_20 1 101 (dk_at dksX0_tuneDigest_4 15 rfl rfl)
theorem dX0_tuneDigest_111 : decode cX0_tuneDigest 111 = .ok (.lload 4, 2) := dk_22 4 (dk_at dksX0_tuneDigest_4 18 rfl rfl)
theorem dX0_tuneDigest_113 : decode cX0_tuneDigest 113 = .ok (.lmul, 1) := dk_105 (dk_at dksX0_tuneDigest_4 20 rfl rfl)
theorem dX0_tuneDigest_114 : decode cX0_tuneDigest 114 = .ok (.aload_n 0, 1) := dk_42 (dk_at dksX0_tuneDigest_4 21 rfl rfl)
theorem dX0_tuneDigest_115 : decode cX0_tuneDigest 115 = .ok (.iload_n 3, 1) := dk_29 (dk_at dksX0_tuneDigest_4 22 rfl rfl)
theorem dX0_tuneDigest_116 : decode cX0_tuneDigest 116 = .ok (.bipush 9, 2) := dk_16 9 (dk_at dksX0_tuneDigest_5 0 rfl rfl)
theorem dX0_tuneDigest_118 : decode cX0_tuneDigest 118 = .ok (.iconst 0, 1) := dk_3 (dk_at dksX0_tuneDigest_5 2 rfl rfl)
theorem dX0_tuneDigest_119 : decode cX0_tuneDigest 119 = .ok (.invokevirtual 235, 3) := dk_182 0 235 (dk_at dksX0_tuneDigest_5 3 rfl rfl)
theorem dX0_tuneDigest_122 : decode cX0_tuneDigest 122 = .ok (.i2l, 1) := dk_133 (dk_at dksX0_tuneDigest_5 6 rfl rfl)
theorem dX0_tuneDigest_123 : decode cX0_tuneDigest 123 = .ok (.ladd, 1) := dk_97 (dk_at dksX0_tuneDigest_5 7 rfl rfl)
theorem dX0_tuneDigest_124 : decode cX0_tuneDigest 124 = .ok (.lstore 4, 2) := dk_55 4 (dk_at dksX0_tuneDigest_5 8 rfl rfl)
theorem dX0_tuneDigest_126 : decode cX0_tuneDigest 126 = .ok (.ldc2_w 357, 3) := dk_20 1 101 (dk_at dksX0_tuneDigest_5 10 rfl rfl)
theorem dX0_tuneDigest_129 : decode cX0_tuneDigest 129 = .ok (.lload 4, 2) := dk_22 4 (dk_at dksX0_tuneDigest_5 13 rfl rfl)
theorem dX0_tuneDigest_131 : decode cX0_tuneDigest 131 = .ok (.lmul, 1) := dk_105 (dk_at dksX0_tuneDigest_5 15 rfl rfl)
theorem dX0_tuneDigest_132 : decode cX0_tuneDigest 132 = .ok (.aload_n 0, 1) := dk_42 (dk_at dksX0_tuneDigest_5 16 rfl rfl)
theorem dX0_tuneDigest_133 : decode cX0_tuneDigest 133 = .ok (.iload_n 3, 1) := dk_29 (dk_at dksX0_tuneDigest_5 17 rfl rfl)
theorem dX0_tuneDigest_134 : decode cX0_tuneDigest 134 = .ok (.iconst 3, 1) := dk_6 (dk_at dksX0_tuneDigest_5 18 rfl rfl)
theorem dX0_tuneDigest_135 : decode cX0_tuneDigest 135 = .ok (.iconst (-1), 1) := dk_2 (dk_at dksX0_tuneDigest_5 19 rfl rfl)
theorem dX0_tuneDigest_136 : decode cX0_tuneDigest 136 = .ok (.invokevirtual 238, 3) := dk_182 0 238 (dk_at dksX0_tuneDigest_5 20 rfl rfl)
theorem dX0_tuneDigest_139 : decode cX0_tuneDigest 139 = .ok (.i2l, 1) := dk_133 (dk_at dksX0_tuneDigest_5 23 rfl rfl)
theorem dX0_tuneDigest_140 : decode cX0_tuneDigest 140 = .ok (.ladd, 1) := dk_97 (dk_at dksX0_tuneDigest_6 0 rfl rfl)
theorem dX0_tuneDigest_141 : decode cX0_tuneDigest 141 = .ok (.lstore 4, 2) := dk_55 4 (dk_at dksX0_tuneDigest_6 1 rfl rfl)
theorem dX0_tuneDigest_143 : decode cX0_tuneDigest 143 = .ok (.ldc2_w 357, 3) := dk_20 1 101 (dk_at dksX0_tuneDigest_6 3 rfl rfl)
theorem dX0_tuneDigest_146 : decode cX0_tuneDigest 146 = .ok (.lload 4, 2) := dk_22 4 (dk_at dksX0_tuneDigest_6 6 rfl rfl)
theorem dX0_tuneDigest_148 : decode cX0_tuneDigest 148 = .ok (.lmul, 1) := dk_105 (dk_at dksX0_tuneDigest_6 8 rfl rfl)
theorem dX0_tuneDigest_149 : decode cX0_tuneDigest 149 = .ok (.aload_n 0, 1) := dk_42 (dk_at dksX0_tuneDigest_6 9 rfl rfl)
theorem dX0_tuneDigest_150 : decode cX0_tuneDigest 150 = .ok (.iload_n 3, 1) := dk_29 (dk_at dksX0_tuneDigest_6 10 rfl rfl)
theorem dX0_tuneDigest_151 : decode cX0_tuneDigest 151 = .ok (.iconst 3, 1) := dk_6 (dk_at dksX0_tuneDigest_6 11 rfl rfl)
theorem dX0_tuneDigest_152 : decode cX0_tuneDigest 152 = .ok (.iconst 0, 1) := dk_3 (dk_at dksX0_tuneDigest_6 12 rfl rfl)
theorem dX0_tuneDigest_153 : decode cX0_tuneDigest 153 = .ok (.invokevirtual 238, 3) := dk_182 0 238 (dk_at dksX0_tuneDigest_6 13 rfl rfl)
theorem dX0_tuneDigest_156 : decode cX0_tuneDigest 156 = .ok (.i2l, 1) := dk_133 (dk_at dksX0_tuneDigest_6 16 rfl rfl)
theorem dX0_tuneDigest_157 : decode cX0_tuneDigest 157 = .ok (.ladd, 1) := dk_97 (dk_at dksX0_tuneDigest_6 17 rfl rfl)
theorem dX0_tuneDigest_158 : decode cX0_tuneDigest 158 = .ok (.lstore 4, 2) := dk_55 4 (dk_at dksX0_tuneDigest_6 18 rfl rfl)
theorem dX0_tuneDigest_160 : decode cX0_tuneDigest 160 = .ok (.ldc2_w 357, 3) := dk_20 1 101 (dk_at dksX0_tuneDigest_6 20 rfl rfl)
theorem dX0_tuneDigest_163 : decode cX0_tuneDigest 163 = .ok (.lload 4, 2) := dk_22 4 (dk_at dksX0_tuneDigest_7 0 rfl rfl)
theorem dX0_tuneDigest_165 : decode cX0_tuneDigest 165 = .ok (.lmul, 1) := dk_105 (dk_at dksX0_tuneDigest_7 2 rfl rfl)
theorem dX0_tuneDigest_166 : decode cX0_tuneDigest 166 = .ok (.aload_n 0, 1) := dk_42 (dk_at dksX0_tuneDigest_7 3 rfl rfl)
theorem dX0_tuneDigest_167 : decode cX0_tuneDigest 167 = .ok (.iconst 0, 1) := dk_3 (dk_at dksX0_tuneDigest_7 4 rfl rfl)
theorem dX0_tuneDigest_168 : decode cX0_tuneDigest 168 = .ok (.iload_n 3, 1) := dk_29 (dk_at dksX0_tuneDigest_7 5 rfl rfl)
theorem dX0_tuneDigest_169 : decode cX0_tuneDigest 169 = .ok (.iconst 0, 1) := dk_3 (dk_at dksX0_tuneDigest_7 6 rfl rfl)
theorem dX0_tuneDigest_170 : decode cX0_tuneDigest 170 = .ok (.invokevirtual 248, 3) := dk_182 0 248 (dk_at dksX0_tuneDigest_7 7 rfl rfl)
theorem dX0_tuneDigest_173 : decode cX0_tuneDigest 173 = .ok (.i2l, 1) := dk_133 (dk_at dksX0_tuneDigest_7 10 rfl rfl)
theorem dX0_tuneDigest_174 : decode cX0_tuneDigest 174 = .ok (.ladd, 1) := dk_97 (dk_at dksX0_tuneDigest_7 11 rfl rfl)
theorem dX0_tuneDigest_175 : decode cX0_tuneDigest 175 = .ok (.lstore 4, 2) := dk_55 4 (dk_at dksX0_tuneDigest_7 12 rfl rfl)
theorem dX0_tuneDigest_177 : decode cX0_tuneDigest 177 = .ok (.ldc2_w 357, 3) := dk_20 1 101 (dk_at dksX0_tuneDigest_7 14 rfl rfl)
theorem dX0_tuneDigest_180 : decode cX0_tuneDigest 180 = .ok (.lload 4, 2) := dk_22 4 (dk_at dksX0_tuneDigest_7 17 rfl rfl)
theorem dX0_tuneDigest_182 : decode cX0_tuneDigest 182 = .ok (.lmul, 1) := dk_105 (dk_at dksX0_tuneDigest_7 19 rfl rfl)
theorem dX0_tuneDigest_183 : decode cX0_tuneDigest 183 = .ok (.aload_n 0, 1) := dk_42 (dk_at dksX0_tuneDigest_7 20 rfl rfl)
theorem dX0_tuneDigest_184 : decode cX0_tuneDigest 184 = .ok (.iconst 0, 1) := dk_3 (dk_at dksX0_tuneDigest_7 21 rfl rfl)
theorem dX0_tuneDigest_185 : decode cX0_tuneDigest 185 = .ok (.iload_n 3, 1) := dk_29 (dk_at dksX0_tuneDigest_7 22 rfl rfl)
theorem dX0_tuneDigest_186 : decode cX0_tuneDigest 186 = .ok (.iconst 1, 1) := dk_4 (dk_at dksX0_tuneDigest_7 23 rfl rfl)
theorem dX0_tuneDigest_187 : decode cX0_tuneDigest 187 = .ok (.invokevirtual 248, 3) := dk_182 0 248 (dk_at dksX0_tuneDigest_8 0 rfl rfl)
theorem dX0_tuneDigest_190 : decode cX0_tuneDigest 190 = .ok (.i2l, 1) := dk_133 (dk_at dksX0_tuneDigest_8 3 rfl rfl)
theorem dX0_tuneDigest_191 : decode cX0_tuneDigest 191 = .ok (.ladd, 1) := dk_97 (dk_at dksX0_tuneDigest_8 4 rfl rfl)
theorem dX0_tuneDigest_192 : decode cX0_tuneDigest 192 = .ok (.lstore 4, 2) := dk_55 4 (dk_at dksX0_tuneDigest_8 5 rfl rfl)
theorem dX0_tuneDigest_194 : decode cX0_tuneDigest 194 = .ok (.ldc2_w 357, 3) := dk_20 1 101 (dk_at dksX0_tuneDigest_8 7 rfl rfl)
theorem dX0_tuneDigest_197 : decode cX0_tuneDigest 197 = .ok (.lload 4, 2) := dk_22 4 (dk_at dksX0_tuneDigest_8 10 rfl rfl)
theorem dX0_tuneDigest_199 : decode cX0_tuneDigest 199 = .ok (.lmul, 1) := dk_105 (dk_at dksX0_tuneDigest_8 12 rfl rfl)
theorem dX0_tuneDigest_200 : decode cX0_tuneDigest 200 = .ok (.aload_n 0, 1) := dk_42 (dk_at dksX0_tuneDigest_8 13 rfl rfl)
theorem dX0_tuneDigest_201 : decode cX0_tuneDigest 201 = .ok (.iconst 0, 1) := dk_3 (dk_at dksX0_tuneDigest_8 14 rfl rfl)
theorem dX0_tuneDigest_202 : decode cX0_tuneDigest 202 = .ok (.iload_n 3, 1) := dk_29 (dk_at dksX0_tuneDigest_8 15 rfl rfl)
theorem dX0_tuneDigest_203 : decode cX0_tuneDigest 203 = .ok (.invokevirtual 254, 3) := dk_182 0 254 (dk_at dksX0_tuneDigest_8 16 rfl rfl)
theorem dX0_tuneDigest_206 : decode cX0_tuneDigest 206 = .ok (.i2l, 1) := dk_133 (dk_at dksX0_tuneDigest_8 19 rfl rfl)
theorem dX0_tuneDigest_207 : decode cX0_tuneDigest 207 = .ok (.ladd, 1) := dk_97 (dk_at dksX0_tuneDigest_8 20 rfl rfl)
theorem dX0_tuneDigest_208 : decode cX0_tuneDigest 208 = .ok (.lstore 4, 2) := dk_55 4 (dk_at dksX0_tuneDigest_8 21 rfl rfl)
theorem dX0_tuneDigest_210 : decode cX0_tuneDigest 210 = .ok (.ldc2_w 357, 3) := dk_20 1 101 (dk_at dksX0_tuneDigest_9 0 rfl rfl)
theorem dX0_tuneDigest_213 : decode cX0_tuneDigest 213 = .ok (.lload 4, 2) := dk_22 4 (dk_at dksX0_tuneDigest_9 3 rfl rfl)
theorem dX0_tuneDigest_215 : decode cX0_tuneDigest 215 = .ok (.lmul, 1) := dk_105 (dk_at dksX0_tuneDigest_9 5 rfl rfl)
theorem dX0_tuneDigest_216 : decode cX0_tuneDigest 216 = .ok (.aload_n 0, 1) := dk_42 (dk_at dksX0_tuneDigest_9 6 rfl rfl)
theorem dX0_tuneDigest_217 : decode cX0_tuneDigest 217 = .ok (.iload_n 3, 1) := dk_29 (dk_at dksX0_tuneDigest_9 7 rfl rfl)
theorem dX0_tuneDigest_218 : decode cX0_tuneDigest 218 = .ok (.invokevirtual 257, 3) := dk_182 1 1 (dk_at dksX0_tuneDigest_9 8 rfl rfl)
theorem dX0_tuneDigest_221 : decode cX0_tuneDigest 221 = .ok (.i2l, 1) := dk_133 (dk_at dksX0_tuneDigest_9 11 rfl rfl)
theorem dX0_tuneDigest_222 : decode cX0_tuneDigest 222 = .ok (.ladd, 1) := dk_97 (dk_at dksX0_tuneDigest_9 12 rfl rfl)
theorem dX0_tuneDigest_223 : decode cX0_tuneDigest 223 = .ok (.lstore 4, 2) := dk_55 4 (dk_at dksX0_tuneDigest_9 13 rfl rfl)
theorem dX0_tuneDigest_225 : decode cX0_tuneDigest 225 = .ok (.ldc2_w 357, 3) := dk_20 1 101 (dk_at dksX0_tuneDigest_9 15 rfl rfl)
theorem dX0_tuneDigest_228 : decode cX0_tuneDigest 228 = .ok (.lload 4, 2) := dk_22 4 (dk_at dksX0_tuneDigest_9 18 rfl rfl)
theorem dX0_tuneDigest_230 : decode cX0_tuneDigest 230 = .ok (.lmul, 1) := dk_105 (dk_at dksX0_tuneDigest_9 20 rfl rfl)
theorem dX0_tuneDigest_231 : decode cX0_tuneDigest 231 = .ok (.aload_n 0, 1) := dk_42 (dk_at dksX0_tuneDigest_9 21 rfl rfl)
theorem dX0_tuneDigest_232 : decode cX0_tuneDigest 232 = .ok (.iload_n 3, 1) := dk_29 (dk_at dksX0_tuneDigest_9 22 rfl rfl)
theorem dX0_tuneDigest_233 : decode cX0_tuneDigest 233 = .ok (.invokevirtual 260, 3) := dk_182 1 4 (dk_at dksX0_tuneDigest_10 0 rfl rfl)
theorem dX0_tuneDigest_236 : decode cX0_tuneDigest 236 = .ok (.i2l, 1) := dk_133 (dk_at dksX0_tuneDigest_10 3 rfl rfl)
theorem dX0_tuneDigest_237 : decode cX0_tuneDigest 237 = .ok (.ladd, 1) := dk_97 (dk_at dksX0_tuneDigest_10 4 rfl rfl)
theorem dX0_tuneDigest_238 : decode cX0_tuneDigest 238 = .ok (.lstore 4, 2) := dk_55 4 (dk_at dksX0_tuneDigest_10 5 rfl rfl)
theorem dX0_tuneDigest_240 : decode cX0_tuneDigest 240 = .ok (.ldc2_w 357, 3) := dk_20 1 101 (dk_at dksX0_tuneDigest_10 7 rfl rfl)
theorem dX0_tuneDigest_243 : decode cX0_tuneDigest 243 = .ok (.lload 4, 2) := dk_22 4 (dk_at dksX0_tuneDigest_10 10 rfl rfl)
theorem dX0_tuneDigest_245 : decode cX0_tuneDigest 245 = .ok (.lmul, 1) := dk_105 (dk_at dksX0_tuneDigest_10 12 rfl rfl)
theorem dX0_tuneDigest_246 : decode cX0_tuneDigest 246 = .ok (.aload_n 0, 1) := dk_42 (dk_at dksX0_tuneDigest_10 13 rfl rfl)
theorem dX0_tuneDigest_247 : decode cX0_tuneDigest 247 = .ok (.iload_n 3, 1) := dk_29 (dk_at dksX0_tuneDigest_10 14 rfl rfl)
theorem dX0_tuneDigest_248 : decode cX0_tuneDigest 248 = .ok (.iconst 0, 1) := dk_3 (dk_at dksX0_tuneDigest_10 15 rfl rfl)
theorem dX0_tuneDigest_249 : decode cX0_tuneDigest 249 = .ok (.invokevirtual 269, 3) := dk_182 1 13 (dk_at dksX0_tuneDigest_10 16 rfl rfl)
theorem dX0_tuneDigest_252 : decode cX0_tuneDigest 252 = .ok (.i2l, 1) := dk_133 (dk_at dksX0_tuneDigest_10 19 rfl rfl)
theorem dX0_tuneDigest_253 : decode cX0_tuneDigest 253 = .ok (.ladd, 1) := dk_97 (dk_at dksX0_tuneDigest_10 20 rfl rfl)
theorem dX0_tuneDigest_254 : decode cX0_tuneDigest 254 = .ok (.lstore 4, 2) := dk_55 4 (dk_at dksX0_tuneDigest_10 21 rfl rfl)
theorem dX0_tuneDigest_256 : decode cX0_tuneDigest 256 = .ok (.ldc2_w 357, 3) := dk_20 1 101 (dk_at dksX0_tuneDigest_11 0 rfl rfl)
theorem dX0_tuneDigest_259 : decode cX0_tuneDigest 259 = .ok (.lload 4, 2) := dk_22 4 (dk_at dksX0_tuneDigest_11 3 rfl rfl)
theorem dX0_tuneDigest_261 : decode cX0_tuneDigest 261 = .ok (.lmul, 1) := dk_105 (dk_at dksX0_tuneDigest_11 5 rfl rfl)
theorem dX0_tuneDigest_262 : decode cX0_tuneDigest 262 = .ok (.aload_n 0, 1) := dk_42 (dk_at dksX0_tuneDigest_11 6 rfl rfl)
theorem dX0_tuneDigest_263 : decode cX0_tuneDigest 263 = .ok (.iload_n 3, 1) := dk_29 (dk_at dksX0_tuneDigest_11 7 rfl rfl)
theorem dX0_tuneDigest_264 : decode cX0_tuneDigest 264 = .ok (.iconst 1, 1) := dk_4 (dk_at dksX0_tuneDigest_11 8 rfl rfl)
theorem dX0_tuneDigest_265 : decode cX0_tuneDigest 265 = .ok (.invokevirtual 269, 3) := dk_182 1 13 (dk_at dksX0_tuneDigest_11 9 rfl rfl)
theorem dX0_tuneDigest_268 : decode cX0_tuneDigest 268 = .ok (.i2l, 1) := dk_133 (dk_at dksX0_tuneDigest_11 12 rfl rfl)
theorem dX0_tuneDigest_269 : decode cX0_tuneDigest 269 = .ok (.ladd, 1) := dk_97 (dk_at dksX0_tuneDigest_11 13 rfl rfl)
theorem dX0_tuneDigest_270 : decode cX0_tuneDigest 270 = .ok (.lstore 4, 2) := dk_55 4 (dk_at dksX0_tuneDigest_11 14 rfl rfl)
theorem dX0_tuneDigest_272 : decode cX0_tuneDigest 272 = .ok (.ldc2_w 357, 3) := dk_20 1 101 (dk_at dksX0_tuneDigest_11 16 rfl rfl)
theorem dX0_tuneDigest_275 : decode cX0_tuneDigest 275 = .ok (.lload 4, 2) := dk_22 4 (dk_at dksX0_tuneDigest_11 19 rfl rfl)
theorem dX0_tuneDigest_277 : decode cX0_tuneDigest 277 = .ok (.lmul, 1) := dk_105 (dk_at dksX0_tuneDigest_11 21 rfl rfl)
theorem dX0_tuneDigest_278 : decode cX0_tuneDigest 278 = .ok (.aload_n 0, 1) := dk_42 (dk_at dksX0_tuneDigest_11 22 rfl rfl)
theorem dX0_tuneDigest_279 : decode cX0_tuneDigest 279 = .ok (.bipush 7, 2) := dk_16 7 (dk_at dksX0_tuneDigest_12 0 rfl rfl)
theorem dX0_tuneDigest_281 : decode cX0_tuneDigest 281 = .ok (.bipush 9, 2) := dk_16 9 (dk_at dksX0_tuneDigest_12 2 rfl rfl)
theorem dX0_tuneDigest_283 : decode cX0_tuneDigest 283 = .ok (.iload_n 3, 1) := dk_29 (dk_at dksX0_tuneDigest_12 4 rfl rfl)
theorem dX0_tuneDigest_284 : decode cX0_tuneDigest 284 = .ok (.invokevirtual 295, 3) := dk_182 1 39 (dk_at dksX0_tuneDigest_12 5 rfl rfl)
theorem dX0_tuneDigest_287 : decode cX0_tuneDigest 287 = .ok (.i2l, 1) := dk_133 (dk_at dksX0_tuneDigest_12 8 rfl rfl)
theorem dX0_tuneDigest_288 : decode cX0_tuneDigest 288 = .ok (.ladd, 1) := dk_97 (dk_at dksX0_tuneDigest_12 9 rfl rfl)
theorem dX0_tuneDigest_289 : decode cX0_tuneDigest 289 = .ok (.lstore 4, 2) := dk_55 4 (dk_at dksX0_tuneDigest_12 10 rfl rfl)
theorem dX0_tuneDigest_291 : decode cX0_tuneDigest 291 = .ok (.ldc2_w 357, 3) := dk_20 1 101 (dk_at dksX0_tuneDigest_12 12 rfl rfl)
theorem dX0_tuneDigest_294 : decode cX0_tuneDigest 294 = .ok (.lload 4, 2) := dk_22 4 (dk_at dksX0_tuneDigest_12 15 rfl rfl)
theorem dX0_tuneDigest_296 : decode cX0_tuneDigest 296 = .ok (.lmul, 1) := dk_105 (dk_at dksX0_tuneDigest_12 17 rfl rfl)
theorem dX0_tuneDigest_297 : decode cX0_tuneDigest 297 = .ok (.aload_n 0, 1) := dk_42 (dk_at dksX0_tuneDigest_12 18 rfl rfl)
theorem dX0_tuneDigest_298 : decode cX0_tuneDigest 298 = .ok (.iconst 5, 1) := dk_8 (dk_at dksX0_tuneDigest_12 19 rfl rfl)
theorem dX0_tuneDigest_299 : decode cX0_tuneDigest 299 = .ok (.iload_n 3, 1) := dk_29 (dk_at dksX0_tuneDigest_12 20 rfl rfl)
theorem dX0_tuneDigest_300 : decode cX0_tuneDigest 300 = .ok (.iconst 0, 1) := dk_3 (dk_at dksX0_tuneDigest_12 21 rfl rfl)
theorem dX0_tuneDigest_301 : decode cX0_tuneDigest 301 = .ok (.iconst 4, 1) := dk_7 (dk_at dksX0_tuneDigest_12 22 rfl rfl)
theorem dX0_tuneDigest_302 : decode cX0_tuneDigest 302 = .ok (.bipush 9, 2) := dk_16 9 (dk_at dksX0_tuneDigest_13 0 rfl rfl)
theorem dX0_tuneDigest_304 : decode cX0_tuneDigest 304 = .ok (.iconst 0, 1) := dk_3 (dk_at dksX0_tuneDigest_13 2 rfl rfl)
theorem dX0_tuneDigest_305 : decode cX0_tuneDigest 305 = .ok (.invokevirtual 359, 3) := dk_182 1 103 (dk_at dksX0_tuneDigest_13 3 rfl rfl)
theorem dX0_tuneDigest_308 : decode cX0_tuneDigest 308 = .ok (.ladd, 1) := dk_97 (dk_at dksX0_tuneDigest_13 6 rfl rfl)
theorem dX0_tuneDigest_309 : decode cX0_tuneDigest 309 = .ok (.lstore 4, 2) := dk_55 4 (dk_at dksX0_tuneDigest_13 7 rfl rfl)
theorem dX0_tuneDigest_311 : decode cX0_tuneDigest 311 = .ok (.ldc2_w 357, 3) := dk_20 1 101 (dk_at dksX0_tuneDigest_13 9 rfl rfl)
theorem dX0_tuneDigest_314 : decode cX0_tuneDigest 314 = .ok (.lload 4, 2) := dk_22 4 (dk_at dksX0_tuneDigest_13 12 rfl rfl)
theorem dX0_tuneDigest_316 : decode cX0_tuneDigest 316 = .ok (.lmul, 1) := dk_105 (dk_at dksX0_tuneDigest_13 14 rfl rfl)
theorem dX0_tuneDigest_317 : decode cX0_tuneDigest 317 = .ok (.aload_n 0, 1) := dk_42 (dk_at dksX0_tuneDigest_13 15 rfl rfl)
theorem dX0_tuneDigest_318 : decode cX0_tuneDigest 318 = .ok (.iconst 5, 1) := dk_8 (dk_at dksX0_tuneDigest_13 16 rfl rfl)
theorem dX0_tuneDigest_319 : decode cX0_tuneDigest 319 = .ok (.iload_n 3, 1) := dk_29 (dk_at dksX0_tuneDigest_13 17 rfl rfl)
theorem dX0_tuneDigest_320 : decode cX0_tuneDigest 320 = .ok (.iconst 0, 1) := dk_3 (dk_at dksX0_tuneDigest_13 18 rfl rfl)
theorem dX0_tuneDigest_321 : decode cX0_tuneDigest 321 = .ok (.iconst 4, 1) := dk_7 (dk_at dksX0_tuneDigest_13 19 rfl rfl)
theorem dX0_tuneDigest_322 : decode cX0_tuneDigest 322 = .ok (.bipush 9, 2) := dk_16 9 (dk_at dksX0_tuneDigest_13 20 rfl rfl)
theorem dX0_tuneDigest_324 : decode cX0_tuneDigest 324 = .ok (.iconst 1, 1) := dk_4 (dk_at dksX0_tuneDigest_13 22 rfl rfl)
theorem dX0_tuneDigest_325 : decode cX0_tuneDigest 325 = .ok (.invokevirtual 359, 3) := dk_182 1 103 (dk_at dksX0_tuneDigest_14 0 rfl rfl)
theorem dX0_tuneDigest_328 : decode cX0_tuneDigest 328 = .ok (.ladd, 1) := dk_97 (dk_at dksX0_tuneDigest_14 3 rfl rfl)
theorem dX0_tuneDigest_329 : decode cX0_tuneDigest 329 = .ok (.lreturn, 1) := dk_173 (dk_at dksX0_tuneDigest_14 4 rfl rfl)
